section
/-! the digits of one big number as a memory; forcing; branching on truth values -/
def zq_rd (m i : Nat) : Nat := Nat.mod (Nat.shiftRight m (Nat.mul 32 i)) 4294967296
def zq_wr (m i v : Nat) : Nat := Nat.xor m (Nat.shiftLeft (Nat.xor (zq_rd m i) (Nat.mod v 4294967296)) (Nat.mul 32 i))
noncomputable def zq_fo (x : Nat) (k : Nat → Bool) : Bool := Nat.rec (k 0) (fun n _ => k (Nat.succ n)) x
noncomputable def zq_bc (b x y : Bool) : Bool := Bool.rec y x b
theorem zq_fo_s {x : Nat} {k : Nat → Bool} (h : zq_fo x k = true) : k x = true := by
  cases x with
  | zero => exact h
  | succ n => exact h
theorem zq_fo_e {x : Nat} {k : Nat → Bool} (h : zq_fo x k = true) : ∃ c, c = x ∧ k c = true := ⟨x, rfl, zq_fo_s h⟩
theorem zq_bc_s {b x : Bool} (h : zq_bc b x false = true) : b = true ∧ x = true := by
  cases b with
  | false => exact absurd h Bool.false_ne_true
  | true => exact ⟨rfl, h⟩
theorem zq_bc_b {b x y : Bool} (h : zq_bc b x y = true) : (b = true ∧ x = true) ∨ (b = false ∧ y = true) := by
  cases b with
  | false => exact Or.inr ⟨rfl, h⟩
  | true => exact Or.inl ⟨rfl, h⟩
theorem zq_rd_tb (m i t : Nat) : (zq_rd m i).testBit t = (decide (t < 32) && m.testBit (32 * i + t)) := by
  have e : zq_rd m i = (m >>> (32 * i)) % 2 ^ 32 := rfl
  rw [e, Nat.testBit_mod_two_pow, Nat.testBit_shiftRight]
theorem zq_rw (m i v j : Nat) : zq_rd (zq_wr m i v) j = if j = i then v % 4294967296 else zq_rd m j := by
  apply Nat.eq_of_testBit_eq
  intro t
  have e : zq_wr m i v = m ^^^ ((zq_rd m i ^^^ (v % 2 ^ 32)) <<< (32 * i)) := rfl
  rw [zq_rd_tb, e, Nat.testBit_xor, Nat.testBit_shiftLeft, Nat.testBit_xor, zq_rd_tb, Nat.testBit_mod_two_pow]
  by_cases ht : t < 32
  · by_cases hj : j = i
    · subst hj
      rw [if_pos rfl]
      have e2 : v % 4294967296 = v % 2 ^ 32 := rfl
      rw [e2, Nat.testBit_mod_two_pow]
      have h1 : 32 * j + t ≥ 32 * j := by omega
      have h2 : 32 * j + t - 32 * j = t := by omega
      rw [h2]
      simp [ht]
    · rw [if_neg hj, zq_rd_tb]
      by_cases hlt : j < i
      · have h1 : ¬ (32 * j + t ≥ 32 * i) := by omega
        simp [ht, h1]
      · have h2 : ¬ (32 * j + t - 32 * i < 32) := by omega
        simp [ht, h2]
  · by_cases hj : j = i
    · rw [if_pos hj]
      have e2 : v % 4294967296 = v % 2 ^ 32 := rfl
      rw [e2, Nat.testBit_mod_two_pow]
      simp [ht]
    · rw [if_neg hj, zq_rd_tb]
      simp [ht]
theorem zq_rw_e {m m' i v : Nat} (hm : m' = zq_wr m i v) : zq_rd m' i = v % 4294967296 := by
  rw [hm, zq_rw, if_pos rfl]
theorem zq_rw_n {m m' i v j : Nat} (hm : m' = zq_wr m i v) (h : j ≠ i) : zq_rd m' j = zq_rd m j := by
  rw [hm, zq_rw, if_neg h]
theorem zq_rd_lt (m i : Nat) : zq_rd m i < 4294967296 := Nat.mod_lt _ (by decide)
/-! whole numbers -/
theorem zq_bv (n : Nat) : (nI n).toBitVec = BitVec.ofNat 32 n := rfl
theorem zq_inj {a b : Int32} (h : a.toBitVec = b.toBitVec) : a = b := Int32.toBitVec_inj.mp h
theorem zq_mod (n : Nat) : nI (n % 4294967296) = nI n := by
  apply zq_inj
  rw [zq_bv, zq_bv]
  apply BitVec.eq_of_toNat_eq
  rw [BitVec.toNat_ofNat, BitVec.toNat_ofNat]
  exact Nat.mod_mod _ _
theorem zq_toInt (n : Nat) : (nI n).toInt = if n % 4294967296 < 2147483648 then ((n % 4294967296 : Nat) : Int) else ((n % 4294967296 : Nat) : Int) - 4294967296 := by
  have e : (nI n).toInt = (BitVec.ofNat 32 n).toInt := rfl
  rw [e, BitVec.toInt_eq_toNat_cond, BitVec.toNat_ofNat]
  have e2 : (2 : Nat) ^ 32 = 4294967296 := rfl
  rw [e2]
  by_cases h : n % 4294967296 < 2147483648
  · rw [if_pos h, if_pos (by omega)]
  · rw [if_neg h, if_neg (by omega)]
    rfl
def zq_ad (a b : Nat) : Nat := Nat.mod (Nat.add a b) 4294967296
def zq_sb (a b : Nat) : Nat := Nat.mod (Nat.add a (Nat.sub 4294967296 (Nat.mod b 4294967296))) 4294967296
def zq_ml (a b : Nat) : Nat := Nat.mod (Nat.mul a b) 4294967296
def zq_le (a b : Nat) : Bool := Nat.ble (Nat.mod (Nat.add a 2147483648) 4294967296) (Nat.mod (Nat.add b 2147483648) 4294967296)
def zq_lt (a b : Nat) : Bool := Nat.ble (Nat.succ (Nat.mod (Nat.add a 2147483648) 4294967296)) (Nat.mod (Nat.add b 2147483648) 4294967296)
def zq_eq (a b : Nat) : Bool := Nat.beq (Nat.mod a 4294967296) (Nat.mod b 4294967296)
def zq_bl (a b : Nat) : Bool := Nat.ble (Nat.succ a) b
def zq_bit (s c : Nat) : Nat := Nat.mod (Nat.shiftRight (Nat.mod s 4294967296) (Nat.mod c 32)) 2
def zq_sh (c : Nat) : Nat := Nat.shiftLeft 1 (Nat.mod c 32)
theorem zq_bl_s {a b : Nat} (h : zq_bl a b = true) : a < b := Nat.le_of_ble_eq_true h
theorem zq_bl_m {a b : Nat} (h : a < b) : zq_bl a b = true := Nat.ble_eq_true_of_le h
theorem zq_beq_s {a b : Nat} (h : Nat.beq a b = true) : a = b := Nat.eq_of_beq_eq_true h
theorem zq_ble_s {a b : Nat} (h : Nat.ble a b = true) : a ≤ b := Nat.le_of_ble_eq_true h
section
variable {x y : Int32} {a b c : Nat}
theorem zq_tr {e : Int32} (he : e = nI a) (hc : c = a) : e = nI c := by rw [he, hc]
theorem zq_xad (hx : x = nI a) (hy : y = nI b) : x + y = nI (zq_ad a b) := by
  rw [hx, hy, nI_add]
  exact (zq_mod _).symm
theorem zq_xml (hx : x = nI a) (hy : y = nI b) : x * y = nI (zq_ml a b) := by
  rw [hx, hy, pk_mul]
  exact (zq_mod _).symm
theorem zq_xsb (hx : x = nI a) (hy : y = nI b) : x - y = nI (zq_sb a b) := by
  rw [hx, hy]
  have e : nI (zq_sb a b) = nI (a + (4294967296 - b % 4294967296)) := zq_mod _
  rw [e]
  apply zq_inj
  rw [Int32.toBitVec_sub, zq_bv, zq_bv, zq_bv]
  apply BitVec.eq_of_toNat_eq
  rw [BitVec.toNat_sub, BitVec.toNat_ofNat, BitVec.toNat_ofNat, BitVec.toNat_ofNat]
  omega
theorem zq_xand (hx : x = nI a) (hy : y = nI b) : x &&& y = nI (Nat.land a b) := by
  rw [hx, hy]
  apply zq_inj
  rw [Int32.toBitVec_and, zq_bv, zq_bv, zq_bv]
  apply BitVec.eq_of_toNat_eq
  rw [BitVec.toNat_and, BitVec.toNat_ofNat, BitVec.toNat_ofNat, BitVec.toNat_ofNat]
  exact (Nat.and_mod_two_pow).symm
theorem zq_xor (hx : x = nI a) (hy : y = nI b) : x ||| y = nI (Nat.lor a b) := by
  rw [hx, hy]
  apply zq_inj
  rw [Int32.toBitVec_or, zq_bv, zq_bv, zq_bv]
  apply BitVec.eq_of_toNat_eq
  rw [BitVec.toNat_or, BitVec.toNat_ofNat, BitVec.toNat_ofNat, BitVec.toNat_ofNat]
  exact (Nat.or_mod_two_pow).symm
theorem zq_xxor (hx : x = nI a) (hy : y = nI b) : x ^^^ y = nI (Nat.xor a b) := by
  rw [hx, hy]
  apply zq_inj
  rw [Int32.toBitVec_xor, zq_bv, zq_bv, zq_bv]
  apply BitVec.eq_of_toNat_eq
  rw [BitVec.toNat_xor, BitVec.toNat_ofNat, BitVec.toNat_ofNat, BitVec.toNat_ofNat]
  exact (Nat.xor_mod_two_pow).symm
theorem zq_c31 (c : Nat) : nI c &&& 31 = nI (c % 32) := by
  have h := zq_xand (x := nI c) (y := 31) (a := c) (b := 31) rfl rfl
  rw [h]
  exact congrArg nI (Nat.and_two_pow_sub_one_eq_mod c 5)
theorem zq_t31 : ∀ c, c < 32 → (1 : Int32) <<< nI c = nI (1 <<< c) := by decide +kernel
theorem zq_xsh (hx : x = nI c) : (1 : Int32) <<< (x &&& 31) = nI (zq_sh c) := by
  rw [hx, zq_c31, zq_t31 _ (Nat.mod_lt _ (by decide))]
  rfl
theorem zq_smod : ∀ c, c < 32 → ((nI c).toBitVec.smod 32).toNat = c := by decide +kernel
theorem zq_xbit (hx : x = nI a) (hy : y = nI c) : (x >>> (y &&& 31)) &&& 1 = nI (zq_bit a c) := by
  rw [hx, hy, zq_c31]
  have hc : c % 32 < 32 := Nat.mod_lt _ (by decide)
  rw [pk_and (nI a >>> nI (c % 32)) 1 (by decide)]
  apply congrArg nI
  have e1 : (nI a >>> nI (c % 32)).toBitVec = (nI a).toBitVec.sshiftRight ((nI (c % 32)).toBitVec.smod 32).toNat := rfl
  rw [e1, zq_smod _ hc]
  have e2 : zq_bit a c = (a % 2 ^ 32) >>> (c % 32) % 2 := rfl
  rw [e2]
  have e3 : ∀ X : Nat, X % 2 ^ 1 = (X.testBit 0).toNat := by
    intro X
    rw [Nat.testBit_zero]
    by_cases h : X % 2 = 1
    · simp [h]
    · have h0 : X % 2 = 0 := by omega
      simp [h0]
  have e4 : ∀ X : Nat, X % 2 = (X.testBit 0).toNat := e3
  rw [e3, e4, Nat.testBit_shiftRight, Nat.testBit_mod_two_pow]
  have e5 : ((nI a).toBitVec.sshiftRight (c % 32)).toNat.testBit 0 = ((nI a).toBitVec.sshiftRight (c % 32)).getLsbD 0 := rfl
  rw [e5, BitVec.getLsbD_sshiftRight]
  have h1 : c % 32 + 0 < 32 := by omega
  rw [zq_bv]
  simp [hc]
  rw [BitVec.getElem_eq_testBit_toNat, BitVec.toNat_ofNat, Nat.testBit_mod_two_pow]
  simp [hc]
theorem zq_cle (hx : x = nI a) (hy : y = nI b) : x ≤ y ↔ zq_le a b = true := by
  rw [hx, hy, Int32.le_iff_toInt_le, zq_toInt, zq_toInt]
  have e : zq_le a b = true ↔ (a + 2147483648) % 4294967296 ≤ (b + 2147483648) % 4294967296 := ⟨Nat.le_of_ble_eq_true, Nat.ble_eq_true_of_le⟩
  rw [e]
  split <;> split <;> omega
theorem zq_clt (hx : x = nI a) (hy : y = nI b) : x < y ↔ zq_lt a b = true := by
  rw [hx, hy, Int32.lt_iff_toInt_lt, zq_toInt, zq_toInt]
  have e : zq_lt a b = true ↔ (a + 2147483648) % 4294967296 < (b + 2147483648) % 4294967296 := ⟨Nat.le_of_ble_eq_true, Nat.ble_eq_true_of_le⟩
  rw [e]
  split <;> split <;> omega
theorem zq_ceq (hx : x = nI a) (hy : y = nI b) : x = y ↔ zq_eq a b = true := by
  rw [hx, hy, ← Int32.toInt_inj, zq_toInt, zq_toInt]
  have e : zq_eq a b = true ↔ a % 4294967296 = b % 4294967296 := ⟨Nat.eq_of_beq_eq_true, fun h => (Nat.beq_eq ..).mpr h⟩
  rw [e]
  split <;> split <;> omega
theorem zq_xdiv (d : Nat) (hx : x = nI a) (q : zq_bl a 2147483648 = true) (h0 : 0 < d := by decide) (hd : d < 2147483648 := by decide) : x / nI d = nI (Nat.div a d) := by
  rw [hx]
  exact pk_div (zq_bl_s q) h0 hd
theorem zq_xrem (d : Nat) (hx : x = nI a) (q : zq_bl a 2147483648 = true) (h0 : 0 < d := by decide) (hd : d < 2147483648 := by decide) : x - x / nI d * nI d = nI (Nat.mod a d) := by
  rw [hx]
  exact pk_rem (zq_bl_s q) h0 hd
theorem zq_cl (hx : x = nI c) {n : Nat} (q : c < n) (hn : n ≤ 2147483648) : x.toNatClampNeg = c := by
  rw [hx]
  exact nI_clamp (by omega)
theorem zq_vi {n : Nat} {X : Bool} {P : Prop} (hx : x = nI c) (h : zq_bc (zq_bl c n) X false = true) (hp : zq_bl c n = true → X = true → P) (hn : n < 2147483648 := by decide) : vp_in x n ∧ P := by
  obtain ⟨q, h⟩ := zq_bc_s h
  refine ⟨?_, hp q h⟩
  rw [hx]
  exact vp_in_nI (zq_bl_s q) hn
theorem zq_br {C A B : Prop} {t X Y : Bool} (hc : C ↔ t = true) (h : zq_bc t X Y = true) (ha : X = true → A) (hb : Y = true → B) : (C → A) ∧ (¬ C → B) := by
  rcases zq_bc_b h with ⟨q, h⟩ | ⟨q, h⟩
  · exact ⟨fun _ => ha h, fun z => absurd (hc.mpr q) z⟩
  · exact ⟨fun z => absurd (hc.mp z) (by rw [q]; exact Bool.false_ne_true), fun _ => hb h⟩
theorem zq_le_t {P : Int32 → Prop} {e : Int32} {k : Nat → Bool} (h : zq_fo a k = true) (he : e = nI a) (hp : ∀ (x : Int32) (c : Nat), x = nI c → k c = true → P x) : ∀ x, x = e → P x := by
  intro x ex
  exact hp x a (ex.trans he) (zq_fo_s h)
theorem zq_nar {X : Bool} {P : Prop} (hx : x = nI c) (h : zq_bc (Nat.ble c 1) X false = true) (hp : X = true → P) : narrow .boolean (.int x) = .int x ∧ P := by
  obtain ⟨q, h⟩ := zq_bc_s h
  refine ⟨?_, hp h⟩
  have hq := zq_ble_s q
  have : c = 0 ∨ c = 1 := by omega
  rcases this with e | e
  · rw [hx, e]; rfl
  · rw [hx, e]; rfl
end
theorem zq_m1 : (-1 : Int32) = nI 4294967295 := by decide
theorem zq_m2 : (-2 : Int32) = nI 4294967294 := by decide
theorem zq_m3 : (-3 : Int32) = nI 4294967293 := by decide
theorem zq_m4 : (-4 : Int32) = nI 4294967292 := by decide
theorem zq_m5 : (-5 : Int32) = nI 4294967291 := by decide
theorem zq_ff {P : Prop} (h : false = true) : P := absurd h Bool.false_ne_true
end
section
/-! the state as the digits of one number -/
def zq_S (m o n : Nat) (a : Nat → Int32) : Prop := ∀ i, i < n → a i = nI (zq_rd m (Nat.add o i))
def zq_ec (pl : Nat → Nat → Int32) (e j : Nat) : Int32 := if j = 0 then nI (e % 65536) else pl (e / 65536) j
def zq_ac (sg : Nat → Nat → Int32) (d j : Nat) : Int32 := if j = 14 then nI (d % 64) else sg (d / 64) j
def zq_qc (pl : Nat → Nat → Int32) (m o c : Nat) : Int32 := if c < 8 then nI (zq_rd m (o + c)) else zq_ec pl (zq_rd m (o + 8)) (c - 8)
def zq_L (pl : Nat → Nat → Int32) (m : Nat) (a : Nat → Int32) : Prop := ∀ e j, e < 80 → j < 7 → a (7 * e + j) = zq_ec pl (zq_rd m (123 + e)) j
def zq_A (sg : Nat → Nat → Int32) (m o : Nat) (a : Nat → Int32) : Prop := ∀ n j, n < 5 → j < 15 → a (15 * n + j) = zq_ac sg (zq_rd m (o + n)) j
def zq_Q (pl : Nat → Nat → Int32) (m : Nat) (a : Nat → Int32) : Prop := ∀ s c, s < 64 → c < 15 → a (16 * s + c) = zq_qc pl m (203 + 9 * s) c
def zq_M (pl : Nat → Nat → Int32) (m : Nat) (a : Nat → Int32) : Prop := ∀ c, c < 15 → a c = zq_qc pl m 114 c
def zq_R (pl sg : Nat → Nat → Int32) (m : Nat) (u : St2) : Prop := match u with
  | (f1, f2, f3, f4, a1, a2, a3, a4, a5, a6, a7, a8, a9, a10, a11, a12, a13, a14, a15, a16, a17) => f1 = nI (zq_rd m 0) ∧ f2 = nI (zq_rd m 1) ∧ f3 = nI (zq_rd m 2) ∧ f4 = nI (zq_rd m 3) ∧ zq_S m 4 5 a1 ∧ zq_S m 9 5 a2 ∧ zq_S m 14 5 a3 ∧ zq_S m 19 5 a4 ∧ zq_S m 24 5 a5 ∧ zq_S m 29 5 a6 ∧ zq_S m 34 5 a7 ∧ zq_S m 39 5 a8 ∧ zq_S m 44 5 a9 ∧ zq_L pl m a10 ∧ zq_S m 49 5 a11 ∧ zq_A sg m 54 a12 ∧ zq_A sg m 59 a13 ∧ zq_S m 64 25 a14 ∧ zq_S m 89 25 a15 ∧ zq_Q pl m a16 ∧ zq_M pl m a17
theorem zq_S_k {m m' p v o n : Nat} {a : Nat → Int32} (h : zq_S m o n a) (hm : m' = zq_wr m p v) (hp : p < o ∨ o + n ≤ p) : zq_S m' o n a := by
  intro i hi
  rw [h i hi, zq_rw_n hm (j := Nat.add o i)]
  show o + i ≠ p
  omega
theorem zq_S_u {m m' c w o n : Nat} {a a' : Nat → Int32} {x v : Int32} (h : zq_S m o n a) (ea : a' = upd a x.toNatClampNeg v) (hx : x = nI c) (hc : zq_bl c n = true) (hv : v = nI w) (hm : m' = zq_wr m (Nat.add o c) w) (hn : n ≤ 2147483648) : zq_S m' o n a' := by
  intro i hi
  rw [ea, zq_cl hx (zq_bl_s hc) hn]
  by_cases e : i = c
  · rw [e, pk_us, zq_rw_e hm, hv, zq_mod]
  · rw [pk_un e, h i hi, zq_rw_n hm (j := Nat.add o i)]
    show o + i ≠ o + c
    omega
theorem zq_L_k {pl : Nat → Nat → Int32} {m m' p v : Nat} {a : Nat → Int32} (h : zq_L pl m a) (hm : m' = zq_wr m p v) (hp : p < 123 ∨ 203 ≤ p) : zq_L pl m' a := by
  intro e j he hj
  rw [h e j he hj, zq_rw_n hm (j := 123 + e) (by omega)]
theorem zq_A_k {sg : Nat → Nat → Int32} {m m' p v o : Nat} {a : Nat → Int32} (h : zq_A sg m o a) (hm : m' = zq_wr m p v) (hp : p < o ∨ o + 5 ≤ p) : zq_A sg m' o a := by
  intro n j hn hj
  rw [h n j hn hj, zq_rw_n hm (j := o + n) (by omega)]
theorem zq_qc_k {pl : Nat → Nat → Int32} {m m' p v o c : Nat} (hm : m' = zq_wr m p v) (hp : p < o ∨ o + 9 ≤ p) : zq_qc pl m' o c = zq_qc pl m o c := by
  unfold zq_qc
  by_cases h : c < 8
  · rw [if_pos h, if_pos h, zq_rw_n hm (j := o + c) (by omega)]
  · rw [if_neg h, if_neg h, zq_rw_n hm (j := o + 8) (by omega)]
theorem zq_Q_k {pl : Nat → Nat → Int32} {m m' p v : Nat} {a : Nat → Int32} (h : zq_Q pl m a) (hm : m' = zq_wr m p v) (hp : p < 203 ∨ 779 ≤ p) : zq_Q pl m' a := by
  intro s c hs hc
  rw [h s c hs hc, zq_qc_k hm (by omega)]
theorem zq_M_k {pl : Nat → Nat → Int32} {m m' p v : Nat} {a : Nat → Int32} (h : zq_M pl m a) (hm : m' = zq_wr m p v) (hp : p < 114 ∨ 123 ≤ p) : zq_M pl m' a := by
  intro c hc
  rw [h c hc, zq_qc_k hm (by omega)]
theorem zq_g_f1 {pl sg : Nat → Nat → Int32} {m : Nat} {f1 f2 f3 f4 : Int32} {a1 a2 a3 a4 a5 a6 a7 a8 a9 a10 a11 a12 a13 a14 a15 a16 a17 : Nat → Int32} (hR : zq_R pl sg m (f1, f2, f3, f4, a1, a2, a3, a4, a5, a6, a7, a8, a9, a10, a11, a12, a13, a14, a15, a16, a17)) : f1 = nI (zq_rd m 0) := by
  obtain ⟨r1, r2, r3, r4, r5, r6, r7, r8, r9, r10, r11, r12, r13, r14, r15, r16, r17, r18, r19, r20, r21⟩ := hR
  exact r1
theorem zq_g_f2 {pl sg : Nat → Nat → Int32} {m : Nat} {f1 f2 f3 f4 : Int32} {a1 a2 a3 a4 a5 a6 a7 a8 a9 a10 a11 a12 a13 a14 a15 a16 a17 : Nat → Int32} (hR : zq_R pl sg m (f1, f2, f3, f4, a1, a2, a3, a4, a5, a6, a7, a8, a9, a10, a11, a12, a13, a14, a15, a16, a17)) : f2 = nI (zq_rd m 1) := by
  obtain ⟨r1, r2, r3, r4, r5, r6, r7, r8, r9, r10, r11, r12, r13, r14, r15, r16, r17, r18, r19, r20, r21⟩ := hR
  exact r2
theorem zq_g_f3 {pl sg : Nat → Nat → Int32} {m : Nat} {f1 f2 f3 f4 : Int32} {a1 a2 a3 a4 a5 a6 a7 a8 a9 a10 a11 a12 a13 a14 a15 a16 a17 : Nat → Int32} (hR : zq_R pl sg m (f1, f2, f3, f4, a1, a2, a3, a4, a5, a6, a7, a8, a9, a10, a11, a12, a13, a14, a15, a16, a17)) : f3 = nI (zq_rd m 2) := by
  obtain ⟨r1, r2, r3, r4, r5, r6, r7, r8, r9, r10, r11, r12, r13, r14, r15, r16, r17, r18, r19, r20, r21⟩ := hR
  exact r3
theorem zq_g_f4 {pl sg : Nat → Nat → Int32} {m : Nat} {f1 f2 f3 f4 : Int32} {a1 a2 a3 a4 a5 a6 a7 a8 a9 a10 a11 a12 a13 a14 a15 a16 a17 : Nat → Int32} (hR : zq_R pl sg m (f1, f2, f3, f4, a1, a2, a3, a4, a5, a6, a7, a8, a9, a10, a11, a12, a13, a14, a15, a16, a17)) : f4 = nI (zq_rd m 3) := by
  obtain ⟨r1, r2, r3, r4, r5, r6, r7, r8, r9, r10, r11, r12, r13, r14, r15, r16, r17, r18, r19, r20, r21⟩ := hR
  exact r4
theorem zq_p1 {pl sg : Nat → Nat → Int32} {m : Nat} {f1 f2 f3 f4 : Int32} {a1 a2 a3 a4 a5 a6 a7 a8 a9 a10 a11 a12 a13 a14 a15 a16 a17 : Nat → Int32} (hR : zq_R pl sg m (f1, f2, f3, f4, a1, a2, a3, a4, a5, a6, a7, a8, a9, a10, a11, a12, a13, a14, a15, a16, a17)) : zq_S m 4 5 a1 := by
  obtain ⟨r1, r2, r3, r4, r5, r6, r7, r8, r9, r10, r11, r12, r13, r14, r15, r16, r17, r18, r19, r20, r21⟩ := hR
  exact r5
theorem zq_p2 {pl sg : Nat → Nat → Int32} {m : Nat} {f1 f2 f3 f4 : Int32} {a1 a2 a3 a4 a5 a6 a7 a8 a9 a10 a11 a12 a13 a14 a15 a16 a17 : Nat → Int32} (hR : zq_R pl sg m (f1, f2, f3, f4, a1, a2, a3, a4, a5, a6, a7, a8, a9, a10, a11, a12, a13, a14, a15, a16, a17)) : zq_S m 9 5 a2 := by
  obtain ⟨r1, r2, r3, r4, r5, r6, r7, r8, r9, r10, r11, r12, r13, r14, r15, r16, r17, r18, r19, r20, r21⟩ := hR
  exact r6
theorem zq_p3 {pl sg : Nat → Nat → Int32} {m : Nat} {f1 f2 f3 f4 : Int32} {a1 a2 a3 a4 a5 a6 a7 a8 a9 a10 a11 a12 a13 a14 a15 a16 a17 : Nat → Int32} (hR : zq_R pl sg m (f1, f2, f3, f4, a1, a2, a3, a4, a5, a6, a7, a8, a9, a10, a11, a12, a13, a14, a15, a16, a17)) : zq_S m 14 5 a3 := by
  obtain ⟨r1, r2, r3, r4, r5, r6, r7, r8, r9, r10, r11, r12, r13, r14, r15, r16, r17, r18, r19, r20, r21⟩ := hR
  exact r7
theorem zq_p4 {pl sg : Nat → Nat → Int32} {m : Nat} {f1 f2 f3 f4 : Int32} {a1 a2 a3 a4 a5 a6 a7 a8 a9 a10 a11 a12 a13 a14 a15 a16 a17 : Nat → Int32} (hR : zq_R pl sg m (f1, f2, f3, f4, a1, a2, a3, a4, a5, a6, a7, a8, a9, a10, a11, a12, a13, a14, a15, a16, a17)) : zq_S m 19 5 a4 := by
  obtain ⟨r1, r2, r3, r4, r5, r6, r7, r8, r9, r10, r11, r12, r13, r14, r15, r16, r17, r18, r19, r20, r21⟩ := hR
  exact r8
theorem zq_p5 {pl sg : Nat → Nat → Int32} {m : Nat} {f1 f2 f3 f4 : Int32} {a1 a2 a3 a4 a5 a6 a7 a8 a9 a10 a11 a12 a13 a14 a15 a16 a17 : Nat → Int32} (hR : zq_R pl sg m (f1, f2, f3, f4, a1, a2, a3, a4, a5, a6, a7, a8, a9, a10, a11, a12, a13, a14, a15, a16, a17)) : zq_S m 24 5 a5 := by
  obtain ⟨r1, r2, r3, r4, r5, r6, r7, r8, r9, r10, r11, r12, r13, r14, r15, r16, r17, r18, r19, r20, r21⟩ := hR
  exact r9
theorem zq_p6 {pl sg : Nat → Nat → Int32} {m : Nat} {f1 f2 f3 f4 : Int32} {a1 a2 a3 a4 a5 a6 a7 a8 a9 a10 a11 a12 a13 a14 a15 a16 a17 : Nat → Int32} (hR : zq_R pl sg m (f1, f2, f3, f4, a1, a2, a3, a4, a5, a6, a7, a8, a9, a10, a11, a12, a13, a14, a15, a16, a17)) : zq_S m 29 5 a6 := by
  obtain ⟨r1, r2, r3, r4, r5, r6, r7, r8, r9, r10, r11, r12, r13, r14, r15, r16, r17, r18, r19, r20, r21⟩ := hR
  exact r10
theorem zq_p7 {pl sg : Nat → Nat → Int32} {m : Nat} {f1 f2 f3 f4 : Int32} {a1 a2 a3 a4 a5 a6 a7 a8 a9 a10 a11 a12 a13 a14 a15 a16 a17 : Nat → Int32} (hR : zq_R pl sg m (f1, f2, f3, f4, a1, a2, a3, a4, a5, a6, a7, a8, a9, a10, a11, a12, a13, a14, a15, a16, a17)) : zq_S m 34 5 a7 := by
  obtain ⟨r1, r2, r3, r4, r5, r6, r7, r8, r9, r10, r11, r12, r13, r14, r15, r16, r17, r18, r19, r20, r21⟩ := hR
  exact r11
theorem zq_p8 {pl sg : Nat → Nat → Int32} {m : Nat} {f1 f2 f3 f4 : Int32} {a1 a2 a3 a4 a5 a6 a7 a8 a9 a10 a11 a12 a13 a14 a15 a16 a17 : Nat → Int32} (hR : zq_R pl sg m (f1, f2, f3, f4, a1, a2, a3, a4, a5, a6, a7, a8, a9, a10, a11, a12, a13, a14, a15, a16, a17)) : zq_S m 39 5 a8 := by
  obtain ⟨r1, r2, r3, r4, r5, r6, r7, r8, r9, r10, r11, r12, r13, r14, r15, r16, r17, r18, r19, r20, r21⟩ := hR
  exact r12
theorem zq_p9 {pl sg : Nat → Nat → Int32} {m : Nat} {f1 f2 f3 f4 : Int32} {a1 a2 a3 a4 a5 a6 a7 a8 a9 a10 a11 a12 a13 a14 a15 a16 a17 : Nat → Int32} (hR : zq_R pl sg m (f1, f2, f3, f4, a1, a2, a3, a4, a5, a6, a7, a8, a9, a10, a11, a12, a13, a14, a15, a16, a17)) : zq_S m 44 5 a9 := by
  obtain ⟨r1, r2, r3, r4, r5, r6, r7, r8, r9, r10, r11, r12, r13, r14, r15, r16, r17, r18, r19, r20, r21⟩ := hR
  exact r13
theorem zq_p10 {pl sg : Nat → Nat → Int32} {m : Nat} {f1 f2 f3 f4 : Int32} {a1 a2 a3 a4 a5 a6 a7 a8 a9 a10 a11 a12 a13 a14 a15 a16 a17 : Nat → Int32} (hR : zq_R pl sg m (f1, f2, f3, f4, a1, a2, a3, a4, a5, a6, a7, a8, a9, a10, a11, a12, a13, a14, a15, a16, a17)) : zq_L pl m a10 := by
  obtain ⟨r1, r2, r3, r4, r5, r6, r7, r8, r9, r10, r11, r12, r13, r14, r15, r16, r17, r18, r19, r20, r21⟩ := hR
  exact r14
theorem zq_p11 {pl sg : Nat → Nat → Int32} {m : Nat} {f1 f2 f3 f4 : Int32} {a1 a2 a3 a4 a5 a6 a7 a8 a9 a10 a11 a12 a13 a14 a15 a16 a17 : Nat → Int32} (hR : zq_R pl sg m (f1, f2, f3, f4, a1, a2, a3, a4, a5, a6, a7, a8, a9, a10, a11, a12, a13, a14, a15, a16, a17)) : zq_S m 49 5 a11 := by
  obtain ⟨r1, r2, r3, r4, r5, r6, r7, r8, r9, r10, r11, r12, r13, r14, r15, r16, r17, r18, r19, r20, r21⟩ := hR
  exact r15
theorem zq_p12 {pl sg : Nat → Nat → Int32} {m : Nat} {f1 f2 f3 f4 : Int32} {a1 a2 a3 a4 a5 a6 a7 a8 a9 a10 a11 a12 a13 a14 a15 a16 a17 : Nat → Int32} (hR : zq_R pl sg m (f1, f2, f3, f4, a1, a2, a3, a4, a5, a6, a7, a8, a9, a10, a11, a12, a13, a14, a15, a16, a17)) : zq_A sg m 54 a12 := by
  obtain ⟨r1, r2, r3, r4, r5, r6, r7, r8, r9, r10, r11, r12, r13, r14, r15, r16, r17, r18, r19, r20, r21⟩ := hR
  exact r16
theorem zq_p13 {pl sg : Nat → Nat → Int32} {m : Nat} {f1 f2 f3 f4 : Int32} {a1 a2 a3 a4 a5 a6 a7 a8 a9 a10 a11 a12 a13 a14 a15 a16 a17 : Nat → Int32} (hR : zq_R pl sg m (f1, f2, f3, f4, a1, a2, a3, a4, a5, a6, a7, a8, a9, a10, a11, a12, a13, a14, a15, a16, a17)) : zq_A sg m 59 a13 := by
  obtain ⟨r1, r2, r3, r4, r5, r6, r7, r8, r9, r10, r11, r12, r13, r14, r15, r16, r17, r18, r19, r20, r21⟩ := hR
  exact r17
theorem zq_p14 {pl sg : Nat → Nat → Int32} {m : Nat} {f1 f2 f3 f4 : Int32} {a1 a2 a3 a4 a5 a6 a7 a8 a9 a10 a11 a12 a13 a14 a15 a16 a17 : Nat → Int32} (hR : zq_R pl sg m (f1, f2, f3, f4, a1, a2, a3, a4, a5, a6, a7, a8, a9, a10, a11, a12, a13, a14, a15, a16, a17)) : zq_S m 64 25 a14 := by
  obtain ⟨r1, r2, r3, r4, r5, r6, r7, r8, r9, r10, r11, r12, r13, r14, r15, r16, r17, r18, r19, r20, r21⟩ := hR
  exact r18
theorem zq_p15 {pl sg : Nat → Nat → Int32} {m : Nat} {f1 f2 f3 f4 : Int32} {a1 a2 a3 a4 a5 a6 a7 a8 a9 a10 a11 a12 a13 a14 a15 a16 a17 : Nat → Int32} (hR : zq_R pl sg m (f1, f2, f3, f4, a1, a2, a3, a4, a5, a6, a7, a8, a9, a10, a11, a12, a13, a14, a15, a16, a17)) : zq_S m 89 25 a15 := by
  obtain ⟨r1, r2, r3, r4, r5, r6, r7, r8, r9, r10, r11, r12, r13, r14, r15, r16, r17, r18, r19, r20, r21⟩ := hR
  exact r19
theorem zq_p16 {pl sg : Nat → Nat → Int32} {m : Nat} {f1 f2 f3 f4 : Int32} {a1 a2 a3 a4 a5 a6 a7 a8 a9 a10 a11 a12 a13 a14 a15 a16 a17 : Nat → Int32} (hR : zq_R pl sg m (f1, f2, f3, f4, a1, a2, a3, a4, a5, a6, a7, a8, a9, a10, a11, a12, a13, a14, a15, a16, a17)) : zq_Q pl m a16 := by
  obtain ⟨r1, r2, r3, r4, r5, r6, r7, r8, r9, r10, r11, r12, r13, r14, r15, r16, r17, r18, r19, r20, r21⟩ := hR
  exact r20
theorem zq_p17 {pl sg : Nat → Nat → Int32} {m : Nat} {f1 f2 f3 f4 : Int32} {a1 a2 a3 a4 a5 a6 a7 a8 a9 a10 a11 a12 a13 a14 a15 a16 a17 : Nat → Int32} (hR : zq_R pl sg m (f1, f2, f3, f4, a1, a2, a3, a4, a5, a6, a7, a8, a9, a10, a11, a12, a13, a14, a15, a16, a17)) : zq_M pl m a17 := by
  obtain ⟨r1, r2, r3, r4, r5, r6, r7, r8, r9, r10, r11, r12, r13, r14, r15, r16, r17, r18, r19, r20, r21⟩ := hR
  exact r21
theorem zq_g1 {pl sg : Nat → Nat → Int32} {m : Nat} {f1 f2 f3 f4 : Int32} {a1 a2 a3 a4 a5 a6 a7 a8 a9 a10 a11 a12 a13 a14 a15 a16 a17 : Nat → Int32} {x : Int32} {c : Nat} (hR : zq_R pl sg m (f1, f2, f3, f4, a1, a2, a3, a4, a5, a6, a7, a8, a9, a10, a11, a12, a13, a14, a15, a16, a17)) (hx : x = nI c) (hc : zq_bl c 5 = true) : a1 x.toNatClampNeg = nI (zq_rd m (Nat.add 4 c)) := by
  rw [zq_cl hx (zq_bl_s hc) (by decide)]
  exact zq_p1 hR c (zq_bl_s hc)
theorem zq_g2 {pl sg : Nat → Nat → Int32} {m : Nat} {f1 f2 f3 f4 : Int32} {a1 a2 a3 a4 a5 a6 a7 a8 a9 a10 a11 a12 a13 a14 a15 a16 a17 : Nat → Int32} {x : Int32} {c : Nat} (hR : zq_R pl sg m (f1, f2, f3, f4, a1, a2, a3, a4, a5, a6, a7, a8, a9, a10, a11, a12, a13, a14, a15, a16, a17)) (hx : x = nI c) (hc : zq_bl c 5 = true) : a2 x.toNatClampNeg = nI (zq_rd m (Nat.add 9 c)) := by
  rw [zq_cl hx (zq_bl_s hc) (by decide)]
  exact zq_p2 hR c (zq_bl_s hc)
theorem zq_g3 {pl sg : Nat → Nat → Int32} {m : Nat} {f1 f2 f3 f4 : Int32} {a1 a2 a3 a4 a5 a6 a7 a8 a9 a10 a11 a12 a13 a14 a15 a16 a17 : Nat → Int32} {x : Int32} {c : Nat} (hR : zq_R pl sg m (f1, f2, f3, f4, a1, a2, a3, a4, a5, a6, a7, a8, a9, a10, a11, a12, a13, a14, a15, a16, a17)) (hx : x = nI c) (hc : zq_bl c 5 = true) : a3 x.toNatClampNeg = nI (zq_rd m (Nat.add 14 c)) := by
  rw [zq_cl hx (zq_bl_s hc) (by decide)]
  exact zq_p3 hR c (zq_bl_s hc)
theorem zq_g4 {pl sg : Nat → Nat → Int32} {m : Nat} {f1 f2 f3 f4 : Int32} {a1 a2 a3 a4 a5 a6 a7 a8 a9 a10 a11 a12 a13 a14 a15 a16 a17 : Nat → Int32} {x : Int32} {c : Nat} (hR : zq_R pl sg m (f1, f2, f3, f4, a1, a2, a3, a4, a5, a6, a7, a8, a9, a10, a11, a12, a13, a14, a15, a16, a17)) (hx : x = nI c) (hc : zq_bl c 5 = true) : a4 x.toNatClampNeg = nI (zq_rd m (Nat.add 19 c)) := by
  rw [zq_cl hx (zq_bl_s hc) (by decide)]
  exact zq_p4 hR c (zq_bl_s hc)
theorem zq_g5 {pl sg : Nat → Nat → Int32} {m : Nat} {f1 f2 f3 f4 : Int32} {a1 a2 a3 a4 a5 a6 a7 a8 a9 a10 a11 a12 a13 a14 a15 a16 a17 : Nat → Int32} {x : Int32} {c : Nat} (hR : zq_R pl sg m (f1, f2, f3, f4, a1, a2, a3, a4, a5, a6, a7, a8, a9, a10, a11, a12, a13, a14, a15, a16, a17)) (hx : x = nI c) (hc : zq_bl c 5 = true) : a5 x.toNatClampNeg = nI (zq_rd m (Nat.add 24 c)) := by
  rw [zq_cl hx (zq_bl_s hc) (by decide)]
  exact zq_p5 hR c (zq_bl_s hc)
theorem zq_g6 {pl sg : Nat → Nat → Int32} {m : Nat} {f1 f2 f3 f4 : Int32} {a1 a2 a3 a4 a5 a6 a7 a8 a9 a10 a11 a12 a13 a14 a15 a16 a17 : Nat → Int32} {x : Int32} {c : Nat} (hR : zq_R pl sg m (f1, f2, f3, f4, a1, a2, a3, a4, a5, a6, a7, a8, a9, a10, a11, a12, a13, a14, a15, a16, a17)) (hx : x = nI c) (hc : zq_bl c 5 = true) : a6 x.toNatClampNeg = nI (zq_rd m (Nat.add 29 c)) := by
  rw [zq_cl hx (zq_bl_s hc) (by decide)]
  exact zq_p6 hR c (zq_bl_s hc)
theorem zq_g7 {pl sg : Nat → Nat → Int32} {m : Nat} {f1 f2 f3 f4 : Int32} {a1 a2 a3 a4 a5 a6 a7 a8 a9 a10 a11 a12 a13 a14 a15 a16 a17 : Nat → Int32} {x : Int32} {c : Nat} (hR : zq_R pl sg m (f1, f2, f3, f4, a1, a2, a3, a4, a5, a6, a7, a8, a9, a10, a11, a12, a13, a14, a15, a16, a17)) (hx : x = nI c) (hc : zq_bl c 5 = true) : a7 x.toNatClampNeg = nI (zq_rd m (Nat.add 34 c)) := by
  rw [zq_cl hx (zq_bl_s hc) (by decide)]
  exact zq_p7 hR c (zq_bl_s hc)
theorem zq_g8 {pl sg : Nat → Nat → Int32} {m : Nat} {f1 f2 f3 f4 : Int32} {a1 a2 a3 a4 a5 a6 a7 a8 a9 a10 a11 a12 a13 a14 a15 a16 a17 : Nat → Int32} {x : Int32} {c : Nat} (hR : zq_R pl sg m (f1, f2, f3, f4, a1, a2, a3, a4, a5, a6, a7, a8, a9, a10, a11, a12, a13, a14, a15, a16, a17)) (hx : x = nI c) (hc : zq_bl c 5 = true) : a8 x.toNatClampNeg = nI (zq_rd m (Nat.add 39 c)) := by
  rw [zq_cl hx (zq_bl_s hc) (by decide)]
  exact zq_p8 hR c (zq_bl_s hc)
theorem zq_g9 {pl sg : Nat → Nat → Int32} {m : Nat} {f1 f2 f3 f4 : Int32} {a1 a2 a3 a4 a5 a6 a7 a8 a9 a10 a11 a12 a13 a14 a15 a16 a17 : Nat → Int32} {x : Int32} {c : Nat} (hR : zq_R pl sg m (f1, f2, f3, f4, a1, a2, a3, a4, a5, a6, a7, a8, a9, a10, a11, a12, a13, a14, a15, a16, a17)) (hx : x = nI c) (hc : zq_bl c 5 = true) : a9 x.toNatClampNeg = nI (zq_rd m (Nat.add 44 c)) := by
  rw [zq_cl hx (zq_bl_s hc) (by decide)]
  exact zq_p9 hR c (zq_bl_s hc)
theorem zq_g11 {pl sg : Nat → Nat → Int32} {m : Nat} {f1 f2 f3 f4 : Int32} {a1 a2 a3 a4 a5 a6 a7 a8 a9 a10 a11 a12 a13 a14 a15 a16 a17 : Nat → Int32} {x : Int32} {c : Nat} (hR : zq_R pl sg m (f1, f2, f3, f4, a1, a2, a3, a4, a5, a6, a7, a8, a9, a10, a11, a12, a13, a14, a15, a16, a17)) (hx : x = nI c) (hc : zq_bl c 5 = true) : a11 x.toNatClampNeg = nI (zq_rd m (Nat.add 49 c)) := by
  rw [zq_cl hx (zq_bl_s hc) (by decide)]
  exact zq_p11 hR c (zq_bl_s hc)
theorem zq_g14 {pl sg : Nat → Nat → Int32} {m : Nat} {f1 f2 f3 f4 : Int32} {a1 a2 a3 a4 a5 a6 a7 a8 a9 a10 a11 a12 a13 a14 a15 a16 a17 : Nat → Int32} {x : Int32} {c : Nat} (hR : zq_R pl sg m (f1, f2, f3, f4, a1, a2, a3, a4, a5, a6, a7, a8, a9, a10, a11, a12, a13, a14, a15, a16, a17)) (hx : x = nI c) (hc : zq_bl c 25 = true) : a14 x.toNatClampNeg = nI (zq_rd m (Nat.add 64 c)) := by
  rw [zq_cl hx (zq_bl_s hc) (by decide)]
  exact zq_p14 hR c (zq_bl_s hc)
theorem zq_g15 {pl sg : Nat → Nat → Int32} {m : Nat} {f1 f2 f3 f4 : Int32} {a1 a2 a3 a4 a5 a6 a7 a8 a9 a10 a11 a12 a13 a14 a15 a16 a17 : Nat → Int32} {x : Int32} {c : Nat} (hR : zq_R pl sg m (f1, f2, f3, f4, a1, a2, a3, a4, a5, a6, a7, a8, a9, a10, a11, a12, a13, a14, a15, a16, a17)) (hx : x = nI c) (hc : zq_bl c 25 = true) : a15 x.toNatClampNeg = nI (zq_rd m (Nat.add 89 c)) := by
  rw [zq_cl hx (zq_bl_s hc) (by decide)]
  exact zq_p15 hR c (zq_bl_s hc)
theorem zq_gm0 {pl sg : Nat → Nat → Int32} {m : Nat} {f1 f2 f3 f4 : Int32} {a1 a2 a3 a4 a5 a6 a7 a8 a9 a10 a11 a12 a13 a14 a15 a16 a17 : Nat → Int32} (hR : zq_R pl sg m (f1, f2, f3, f4, a1, a2, a3, a4, a5, a6, a7, a8, a9, a10, a11, a12, a13, a14, a15, a16, a17)) : a17 0 = nI (zq_rd m 114) := zq_p17 hR 0 (by decide)
theorem zq_gm1 {pl sg : Nat → Nat → Int32} {m : Nat} {f1 f2 f3 f4 : Int32} {a1 a2 a3 a4 a5 a6 a7 a8 a9 a10 a11 a12 a13 a14 a15 a16 a17 : Nat → Int32} (hR : zq_R pl sg m (f1, f2, f3, f4, a1, a2, a3, a4, a5, a6, a7, a8, a9, a10, a11, a12, a13, a14, a15, a16, a17)) : a17 1 = nI (zq_rd m 115) := zq_p17 hR 1 (by decide)
theorem zq_gm2 {pl sg : Nat → Nat → Int32} {m : Nat} {f1 f2 f3 f4 : Int32} {a1 a2 a3 a4 a5 a6 a7 a8 a9 a10 a11 a12 a13 a14 a15 a16 a17 : Nat → Int32} (hR : zq_R pl sg m (f1, f2, f3, f4, a1, a2, a3, a4, a5, a6, a7, a8, a9, a10, a11, a12, a13, a14, a15, a16, a17)) : a17 2 = nI (zq_rd m 116) := zq_p17 hR 2 (by decide)
theorem zq_gm3 {pl sg : Nat → Nat → Int32} {m : Nat} {f1 f2 f3 f4 : Int32} {a1 a2 a3 a4 a5 a6 a7 a8 a9 a10 a11 a12 a13 a14 a15 a16 a17 : Nat → Int32} (hR : zq_R pl sg m (f1, f2, f3, f4, a1, a2, a3, a4, a5, a6, a7, a8, a9, a10, a11, a12, a13, a14, a15, a16, a17)) : a17 3 = nI (zq_rd m 117) := zq_p17 hR 3 (by decide)
theorem zq_gm4 {pl sg : Nat → Nat → Int32} {m : Nat} {f1 f2 f3 f4 : Int32} {a1 a2 a3 a4 a5 a6 a7 a8 a9 a10 a11 a12 a13 a14 a15 a16 a17 : Nat → Int32} (hR : zq_R pl sg m (f1, f2, f3, f4, a1, a2, a3, a4, a5, a6, a7, a8, a9, a10, a11, a12, a13, a14, a15, a16, a17)) : a17 4 = nI (zq_rd m 118) := zq_p17 hR 4 (by decide)
theorem zq_gm5 {pl sg : Nat → Nat → Int32} {m : Nat} {f1 f2 f3 f4 : Int32} {a1 a2 a3 a4 a5 a6 a7 a8 a9 a10 a11 a12 a13 a14 a15 a16 a17 : Nat → Int32} (hR : zq_R pl sg m (f1, f2, f3, f4, a1, a2, a3, a4, a5, a6, a7, a8, a9, a10, a11, a12, a13, a14, a15, a16, a17)) : a17 5 = nI (zq_rd m 119) := zq_p17 hR 5 (by decide)
theorem zq_gm6 {pl sg : Nat → Nat → Int32} {m : Nat} {f1 f2 f3 f4 : Int32} {a1 a2 a3 a4 a5 a6 a7 a8 a9 a10 a11 a12 a13 a14 a15 a16 a17 : Nat → Int32} (hR : zq_R pl sg m (f1, f2, f3, f4, a1, a2, a3, a4, a5, a6, a7, a8, a9, a10, a11, a12, a13, a14, a15, a16, a17)) : a17 6 = nI (zq_rd m 120) := zq_p17 hR 6 (by decide)
theorem zq_gm7 {pl sg : Nat → Nat → Int32} {m : Nat} {f1 f2 f3 f4 : Int32} {a1 a2 a3 a4 a5 a6 a7 a8 a9 a10 a11 a12 a13 a14 a15 a16 a17 : Nat → Int32} (hR : zq_R pl sg m (f1, f2, f3, f4, a1, a2, a3, a4, a5, a6, a7, a8, a9, a10, a11, a12, a13, a14, a15, a16, a17)) : a17 7 = nI (zq_rd m 121) := zq_p17 hR 7 (by decide)
theorem zq_gm8 {pl sg : Nat → Nat → Int32} {m : Nat} {f1 f2 f3 f4 : Int32} {a1 a2 a3 a4 a5 a6 a7 a8 a9 a10 a11 a12 a13 a14 a15 a16 a17 : Nat → Int32} (hR : zq_R pl sg m (f1, f2, f3, f4, a1, a2, a3, a4, a5, a6, a7, a8, a9, a10, a11, a12, a13, a14, a15, a16, a17)) : a17 8 = nI (Nat.mod (zq_rd m 122) 65536) := zq_p17 hR 8 (by decide)
theorem zq_g10 {pl sg : Nat → Nat → Int32} {m : Nat} {f1 f2 f3 f4 : Int32} {a1 a2 a3 a4 a5 a6 a7 a8 a9 a10 a11 a12 a13 a14 a15 a16 a17 : Nat → Int32} {x : Int32} {c : Nat} (hR : zq_R pl sg m (f1, f2, f3, f4, a1, a2, a3, a4, a5, a6, a7, a8, a9, a10, a11, a12, a13, a14, a15, a16, a17)) (hx : x = nI c) (hc : zq_bl c 560 = true) (h7 : Nat.beq (Nat.mod c 7) 0 = true) : a10 x.toNatClampNeg = nI (Nat.mod (zq_rd m (Nat.add 123 (Nat.div c 7))) 65536) := by
  rw [zq_cl hx (zq_bl_s hc) (by decide)]
  have h7 : c % 7 = 0 := zq_beq_s h7
  have hc := zq_bl_s hc
  have e := zq_p10 hR (c / 7) 0 (by omega) (by omega)
  have e2 : 7 * (c / 7) + 0 = c := by omega
  rw [e2] at e
  exact e
theorem zq_g12m {pl sg : Nat → Nat → Int32} {m : Nat} {f1 f2 f3 f4 : Int32} {a1 a2 a3 a4 a5 a6 a7 a8 a9 a10 a11 a12 a13 a14 a15 a16 a17 : Nat → Int32} {x : Int32} {c : Nat} (hR : zq_R pl sg m (f1, f2, f3, f4, a1, a2, a3, a4, a5, a6, a7, a8, a9, a10, a11, a12, a13, a14, a15, a16, a17)) (hx : x = nI c) (hc : zq_bl c 75 = true) (h7 : Nat.beq (Nat.mod c 15) 14 = true) : a12 x.toNatClampNeg = nI (Nat.mod (zq_rd m (Nat.add 54 (Nat.div c 15))) 64) := by
  rw [zq_cl hx (zq_bl_s hc) (by decide)]
  have h7 : c % 15 = 14 := zq_beq_s h7
  have hc := zq_bl_s hc
  have e := zq_p12 hR (c / 15) 14 (by omega) (by omega)
  have e2 : 15 * (c / 15) + 14 = c := by omega
  rw [e2] at e
  exact e
theorem zq_g13m {pl sg : Nat → Nat → Int32} {m : Nat} {f1 f2 f3 f4 : Int32} {a1 a2 a3 a4 a5 a6 a7 a8 a9 a10 a11 a12 a13 a14 a15 a16 a17 : Nat → Int32} {x : Int32} {c : Nat} (hR : zq_R pl sg m (f1, f2, f3, f4, a1, a2, a3, a4, a5, a6, a7, a8, a9, a10, a11, a12, a13, a14, a15, a16, a17)) (hx : x = nI c) (hc : zq_bl c 75 = true) (h7 : Nat.beq (Nat.mod c 15) 14 = true) : a13 x.toNatClampNeg = nI (Nat.mod (zq_rd m (Nat.add 59 (Nat.div c 15))) 64) := by
  rw [zq_cl hx (zq_bl_s hc) (by decide)]
  have h7 : c % 15 = 14 := zq_beq_s h7
  have hc := zq_bl_s hc
  have e := zq_p13 hR (c / 15) 14 (by omega) (by omega)
  have e2 : 15 * (c / 15) + 14 = c := by omega
  rw [e2] at e
  exact e
theorem zq_w_f1 {pl sg : Nat → Nat → Int32} {m : Nat} {f1 f2 f3 f4 : Int32} {a1 a2 a3 a4 a5 a6 a7 a8 a9 a10 a11 a12 a13 a14 a15 a16 a17 : Nat → Int32} {m' w : Nat} {v : Int32} (hR : zq_R pl sg m (f1, f2, f3, f4, a1, a2, a3, a4, a5, a6, a7, a8, a9, a10, a11, a12, a13, a14, a15, a16, a17)) (hv : v = nI w) (hm : m' = zq_wr m 0 w) : zq_R pl sg m' (v, f2, f3, f4, a1, a2, a3, a4, a5, a6, a7, a8, a9, a10, a11, a12, a13, a14, a15, a16, a17) := by
  obtain ⟨r1, r2, r3, r4, r5, r6, r7, r8, r9, r10, r11, r12, r13, r14, r15, r16, r17, r18, r19, r20, r21⟩ := hR
  exact ⟨(hv.trans ((zq_mod w).symm.trans (congrArg nI (zq_rw_e hm).symm))), (r2.trans (congrArg nI (zq_rw_n hm (by decide)).symm)), (r3.trans (congrArg nI (zq_rw_n hm (by decide)).symm)), (r4.trans (congrArg nI (zq_rw_n hm (by decide)).symm)), (zq_S_k r5 hm (by omega)), (zq_S_k r6 hm (by omega)), (zq_S_k r7 hm (by omega)), (zq_S_k r8 hm (by omega)), (zq_S_k r9 hm (by omega)), (zq_S_k r10 hm (by omega)), (zq_S_k r11 hm (by omega)), (zq_S_k r12 hm (by omega)), (zq_S_k r13 hm (by omega)), (zq_L_k r14 hm (by omega)), (zq_S_k r15 hm (by omega)), (zq_A_k r16 hm (by omega)), (zq_A_k r17 hm (by omega)), (zq_S_k r18 hm (by omega)), (zq_S_k r19 hm (by omega)), (zq_Q_k r20 hm (by omega)), (zq_M_k r21 hm (by omega))⟩
theorem zq_sf1 {pl sg : Nat → Nat → Int32} {m : Nat} {f1 f2 f3 f4 : Int32} {a1 a2 a3 a4 a5 a6 a7 a8 a9 a10 a11 a12 a13 a14 a15 a16 a17 : Nat → Int32} {w : Nat} {v : Int32} {k : Nat → Bool} {P : Prop} (hR : zq_R pl sg m (f1, f2, f3, f4, a1, a2, a3, a4, a5, a6, a7, a8, a9, a10, a11, a12, a13, a14, a15, a16, a17)) (hv : v = nI w) (h : zq_fo (zq_wr m 0 w) k = true) (hp : ∀ (m' : Nat), zq_R pl sg m' (v, f2, f3, f4, a1, a2, a3, a4, a5, a6, a7, a8, a9, a10, a11, a12, a13, a14, a15, a16, a17) → k m' = true → P) : P := by
  obtain ⟨m2, hm, h⟩ := zq_fo_e h
  exact hp m2 (zq_w_f1 hR hv hm) h
theorem zq_w_f2 {pl sg : Nat → Nat → Int32} {m : Nat} {f1 f2 f3 f4 : Int32} {a1 a2 a3 a4 a5 a6 a7 a8 a9 a10 a11 a12 a13 a14 a15 a16 a17 : Nat → Int32} {m' w : Nat} {v : Int32} (hR : zq_R pl sg m (f1, f2, f3, f4, a1, a2, a3, a4, a5, a6, a7, a8, a9, a10, a11, a12, a13, a14, a15, a16, a17)) (hv : v = nI w) (hm : m' = zq_wr m 1 w) : zq_R pl sg m' (f1, v, f3, f4, a1, a2, a3, a4, a5, a6, a7, a8, a9, a10, a11, a12, a13, a14, a15, a16, a17) := by
  obtain ⟨r1, r2, r3, r4, r5, r6, r7, r8, r9, r10, r11, r12, r13, r14, r15, r16, r17, r18, r19, r20, r21⟩ := hR
  exact ⟨(r1.trans (congrArg nI (zq_rw_n hm (by decide)).symm)), (hv.trans ((zq_mod w).symm.trans (congrArg nI (zq_rw_e hm).symm))), (r3.trans (congrArg nI (zq_rw_n hm (by decide)).symm)), (r4.trans (congrArg nI (zq_rw_n hm (by decide)).symm)), (zq_S_k r5 hm (by omega)), (zq_S_k r6 hm (by omega)), (zq_S_k r7 hm (by omega)), (zq_S_k r8 hm (by omega)), (zq_S_k r9 hm (by omega)), (zq_S_k r10 hm (by omega)), (zq_S_k r11 hm (by omega)), (zq_S_k r12 hm (by omega)), (zq_S_k r13 hm (by omega)), (zq_L_k r14 hm (by omega)), (zq_S_k r15 hm (by omega)), (zq_A_k r16 hm (by omega)), (zq_A_k r17 hm (by omega)), (zq_S_k r18 hm (by omega)), (zq_S_k r19 hm (by omega)), (zq_Q_k r20 hm (by omega)), (zq_M_k r21 hm (by omega))⟩
theorem zq_sf2 {pl sg : Nat → Nat → Int32} {m : Nat} {f1 f2 f3 f4 : Int32} {a1 a2 a3 a4 a5 a6 a7 a8 a9 a10 a11 a12 a13 a14 a15 a16 a17 : Nat → Int32} {w : Nat} {v : Int32} {k : Nat → Bool} {P : Prop} (hR : zq_R pl sg m (f1, f2, f3, f4, a1, a2, a3, a4, a5, a6, a7, a8, a9, a10, a11, a12, a13, a14, a15, a16, a17)) (hv : v = nI w) (h : zq_fo (zq_wr m 1 w) k = true) (hp : ∀ (m' : Nat), zq_R pl sg m' (f1, v, f3, f4, a1, a2, a3, a4, a5, a6, a7, a8, a9, a10, a11, a12, a13, a14, a15, a16, a17) → k m' = true → P) : P := by
  obtain ⟨m2, hm, h⟩ := zq_fo_e h
  exact hp m2 (zq_w_f2 hR hv hm) h
theorem zq_w_f3 {pl sg : Nat → Nat → Int32} {m : Nat} {f1 f2 f3 f4 : Int32} {a1 a2 a3 a4 a5 a6 a7 a8 a9 a10 a11 a12 a13 a14 a15 a16 a17 : Nat → Int32} {m' w : Nat} {v : Int32} (hR : zq_R pl sg m (f1, f2, f3, f4, a1, a2, a3, a4, a5, a6, a7, a8, a9, a10, a11, a12, a13, a14, a15, a16, a17)) (hv : v = nI w) (hm : m' = zq_wr m 2 w) : zq_R pl sg m' (f1, f2, v, f4, a1, a2, a3, a4, a5, a6, a7, a8, a9, a10, a11, a12, a13, a14, a15, a16, a17) := by
  obtain ⟨r1, r2, r3, r4, r5, r6, r7, r8, r9, r10, r11, r12, r13, r14, r15, r16, r17, r18, r19, r20, r21⟩ := hR
  exact ⟨(r1.trans (congrArg nI (zq_rw_n hm (by decide)).symm)), (r2.trans (congrArg nI (zq_rw_n hm (by decide)).symm)), (hv.trans ((zq_mod w).symm.trans (congrArg nI (zq_rw_e hm).symm))), (r4.trans (congrArg nI (zq_rw_n hm (by decide)).symm)), (zq_S_k r5 hm (by omega)), (zq_S_k r6 hm (by omega)), (zq_S_k r7 hm (by omega)), (zq_S_k r8 hm (by omega)), (zq_S_k r9 hm (by omega)), (zq_S_k r10 hm (by omega)), (zq_S_k r11 hm (by omega)), (zq_S_k r12 hm (by omega)), (zq_S_k r13 hm (by omega)), (zq_L_k r14 hm (by omega)), (zq_S_k r15 hm (by omega)), (zq_A_k r16 hm (by omega)), (zq_A_k r17 hm (by omega)), (zq_S_k r18 hm (by omega)), (zq_S_k r19 hm (by omega)), (zq_Q_k r20 hm (by omega)), (zq_M_k r21 hm (by omega))⟩
theorem zq_sf3 {pl sg : Nat → Nat → Int32} {m : Nat} {f1 f2 f3 f4 : Int32} {a1 a2 a3 a4 a5 a6 a7 a8 a9 a10 a11 a12 a13 a14 a15 a16 a17 : Nat → Int32} {w : Nat} {v : Int32} {k : Nat → Bool} {P : Prop} (hR : zq_R pl sg m (f1, f2, f3, f4, a1, a2, a3, a4, a5, a6, a7, a8, a9, a10, a11, a12, a13, a14, a15, a16, a17)) (hv : v = nI w) (h : zq_fo (zq_wr m 2 w) k = true) (hp : ∀ (m' : Nat), zq_R pl sg m' (f1, f2, v, f4, a1, a2, a3, a4, a5, a6, a7, a8, a9, a10, a11, a12, a13, a14, a15, a16, a17) → k m' = true → P) : P := by
  obtain ⟨m2, hm, h⟩ := zq_fo_e h
  exact hp m2 (zq_w_f3 hR hv hm) h
theorem zq_w_f4 {pl sg : Nat → Nat → Int32} {m : Nat} {f1 f2 f3 f4 : Int32} {a1 a2 a3 a4 a5 a6 a7 a8 a9 a10 a11 a12 a13 a14 a15 a16 a17 : Nat → Int32} {m' w : Nat} {v : Int32} (hR : zq_R pl sg m (f1, f2, f3, f4, a1, a2, a3, a4, a5, a6, a7, a8, a9, a10, a11, a12, a13, a14, a15, a16, a17)) (hv : v = nI w) (hm : m' = zq_wr m 3 w) : zq_R pl sg m' (f1, f2, f3, v, a1, a2, a3, a4, a5, a6, a7, a8, a9, a10, a11, a12, a13, a14, a15, a16, a17) := by
  obtain ⟨r1, r2, r3, r4, r5, r6, r7, r8, r9, r10, r11, r12, r13, r14, r15, r16, r17, r18, r19, r20, r21⟩ := hR
  exact ⟨(r1.trans (congrArg nI (zq_rw_n hm (by decide)).symm)), (r2.trans (congrArg nI (zq_rw_n hm (by decide)).symm)), (r3.trans (congrArg nI (zq_rw_n hm (by decide)).symm)), (hv.trans ((zq_mod w).symm.trans (congrArg nI (zq_rw_e hm).symm))), (zq_S_k r5 hm (by omega)), (zq_S_k r6 hm (by omega)), (zq_S_k r7 hm (by omega)), (zq_S_k r8 hm (by omega)), (zq_S_k r9 hm (by omega)), (zq_S_k r10 hm (by omega)), (zq_S_k r11 hm (by omega)), (zq_S_k r12 hm (by omega)), (zq_S_k r13 hm (by omega)), (zq_L_k r14 hm (by omega)), (zq_S_k r15 hm (by omega)), (zq_A_k r16 hm (by omega)), (zq_A_k r17 hm (by omega)), (zq_S_k r18 hm (by omega)), (zq_S_k r19 hm (by omega)), (zq_Q_k r20 hm (by omega)), (zq_M_k r21 hm (by omega))⟩
theorem zq_sf4 {pl sg : Nat → Nat → Int32} {m : Nat} {f1 f2 f3 f4 : Int32} {a1 a2 a3 a4 a5 a6 a7 a8 a9 a10 a11 a12 a13 a14 a15 a16 a17 : Nat → Int32} {w : Nat} {v : Int32} {k : Nat → Bool} {P : Prop} (hR : zq_R pl sg m (f1, f2, f3, f4, a1, a2, a3, a4, a5, a6, a7, a8, a9, a10, a11, a12, a13, a14, a15, a16, a17)) (hv : v = nI w) (h : zq_fo (zq_wr m 3 w) k = true) (hp : ∀ (m' : Nat), zq_R pl sg m' (f1, f2, f3, v, a1, a2, a3, a4, a5, a6, a7, a8, a9, a10, a11, a12, a13, a14, a15, a16, a17) → k m' = true → P) : P := by
  obtain ⟨m2, hm, h⟩ := zq_fo_e h
  exact hp m2 (zq_w_f4 hR hv hm) h
theorem zq_w1 {pl sg : Nat → Nat → Int32} {m : Nat} {f1 f2 f3 f4 : Int32} {a1 a2 a3 a4 a5 a6 a7 a8 a9 a10 a11 a12 a13 a14 a15 a16 a17 : Nat → Int32} {m' c w : Nat} {x v : Int32} {a' : Nat → Int32} (hR : zq_R pl sg m (f1, f2, f3, f4, a1, a2, a3, a4, a5, a6, a7, a8, a9, a10, a11, a12, a13, a14, a15, a16, a17)) (ea : a' = upd a1 x.toNatClampNeg v) (hx : x = nI c) (hc : zq_bl c 5 = true) (hv : v = nI w) (hm : m' = zq_wr m (Nat.add 4 c) w) : zq_R pl sg m' (f1, f2, f3, f4, a', a2, a3, a4, a5, a6, a7, a8, a9, a10, a11, a12, a13, a14, a15, a16, a17) := by
  obtain ⟨r1, r2, r3, r4, r5, r6, r7, r8, r9, r10, r11, r12, r13, r14, r15, r16, r17, r18, r19, r20, r21⟩ := hR
  have q := zq_bl_s hc
  have hq : Nat.add 4 c = 4 + c := rfl
  exact ⟨(r1.trans (congrArg nI (zq_rw_n hm (by omega)).symm)), (r2.trans (congrArg nI (zq_rw_n hm (by omega)).symm)), (r3.trans (congrArg nI (zq_rw_n hm (by omega)).symm)), (r4.trans (congrArg nI (zq_rw_n hm (by omega)).symm)), (zq_S_u r5 ea hx hc hv hm (by decide)), (zq_S_k r6 hm (by omega)), (zq_S_k r7 hm (by omega)), (zq_S_k r8 hm (by omega)), (zq_S_k r9 hm (by omega)), (zq_S_k r10 hm (by omega)), (zq_S_k r11 hm (by omega)), (zq_S_k r12 hm (by omega)), (zq_S_k r13 hm (by omega)), (zq_L_k r14 hm (by omega)), (zq_S_k r15 hm (by omega)), (zq_A_k r16 hm (by omega)), (zq_A_k r17 hm (by omega)), (zq_S_k r18 hm (by omega)), (zq_S_k r19 hm (by omega)), (zq_Q_k r20 hm (by omega)), (zq_M_k r21 hm (by omega))⟩
theorem zq_st1 {pl sg : Nat → Nat → Int32} {m : Nat} {f1 f2 f3 f4 : Int32} {a1 a2 a3 a4 a5 a6 a7 a8 a9 a10 a11 a12 a13 a14 a15 a16 a17 : Nat → Int32} {c w : Nat} {x v : Int32} {k : Nat → Bool} {P : (Nat → Int32) → Prop} (hR : zq_R pl sg m (f1, f2, f3, f4, a1, a2, a3, a4, a5, a6, a7, a8, a9, a10, a11, a12, a13, a14, a15, a16, a17)) (hx : x = nI c) (hv : v = nI w) (h : zq_bc (zq_bl c 5) (zq_fo (zq_wr m (Nat.add 4 c) w) k) false = true) (hp : ∀ (a' : Nat → Int32) (m' : Nat), zq_R pl sg m' (f1, f2, f3, f4, a', a2, a3, a4, a5, a6, a7, a8, a9, a10, a11, a12, a13, a14, a15, a16, a17) → k m' = true → P a') : vp_in x 5 ∧ ∀ a', a' = upd a1 x.toNatClampNeg v → P a' := by
  refine zq_vi hx h (fun hc h => ?_)
  intro a' ea
  obtain ⟨m2, hm, h⟩ := zq_fo_e h
  exact hp a' m2 (zq_w1 hR ea hx hc hv hm) h
theorem zq_w2 {pl sg : Nat → Nat → Int32} {m : Nat} {f1 f2 f3 f4 : Int32} {a1 a2 a3 a4 a5 a6 a7 a8 a9 a10 a11 a12 a13 a14 a15 a16 a17 : Nat → Int32} {m' c w : Nat} {x v : Int32} {a' : Nat → Int32} (hR : zq_R pl sg m (f1, f2, f3, f4, a1, a2, a3, a4, a5, a6, a7, a8, a9, a10, a11, a12, a13, a14, a15, a16, a17)) (ea : a' = upd a2 x.toNatClampNeg v) (hx : x = nI c) (hc : zq_bl c 5 = true) (hv : v = nI w) (hm : m' = zq_wr m (Nat.add 9 c) w) : zq_R pl sg m' (f1, f2, f3, f4, a1, a', a3, a4, a5, a6, a7, a8, a9, a10, a11, a12, a13, a14, a15, a16, a17) := by
  obtain ⟨r1, r2, r3, r4, r5, r6, r7, r8, r9, r10, r11, r12, r13, r14, r15, r16, r17, r18, r19, r20, r21⟩ := hR
  have q := zq_bl_s hc
  have hq : Nat.add 9 c = 9 + c := rfl
  exact ⟨(r1.trans (congrArg nI (zq_rw_n hm (by omega)).symm)), (r2.trans (congrArg nI (zq_rw_n hm (by omega)).symm)), (r3.trans (congrArg nI (zq_rw_n hm (by omega)).symm)), (r4.trans (congrArg nI (zq_rw_n hm (by omega)).symm)), (zq_S_k r5 hm (by omega)), (zq_S_u r6 ea hx hc hv hm (by decide)), (zq_S_k r7 hm (by omega)), (zq_S_k r8 hm (by omega)), (zq_S_k r9 hm (by omega)), (zq_S_k r10 hm (by omega)), (zq_S_k r11 hm (by omega)), (zq_S_k r12 hm (by omega)), (zq_S_k r13 hm (by omega)), (zq_L_k r14 hm (by omega)), (zq_S_k r15 hm (by omega)), (zq_A_k r16 hm (by omega)), (zq_A_k r17 hm (by omega)), (zq_S_k r18 hm (by omega)), (zq_S_k r19 hm (by omega)), (zq_Q_k r20 hm (by omega)), (zq_M_k r21 hm (by omega))⟩
theorem zq_st2 {pl sg : Nat → Nat → Int32} {m : Nat} {f1 f2 f3 f4 : Int32} {a1 a2 a3 a4 a5 a6 a7 a8 a9 a10 a11 a12 a13 a14 a15 a16 a17 : Nat → Int32} {c w : Nat} {x v : Int32} {k : Nat → Bool} {P : (Nat → Int32) → Prop} (hR : zq_R pl sg m (f1, f2, f3, f4, a1, a2, a3, a4, a5, a6, a7, a8, a9, a10, a11, a12, a13, a14, a15, a16, a17)) (hx : x = nI c) (hv : v = nI w) (h : zq_bc (zq_bl c 5) (zq_fo (zq_wr m (Nat.add 9 c) w) k) false = true) (hp : ∀ (a' : Nat → Int32) (m' : Nat), zq_R pl sg m' (f1, f2, f3, f4, a1, a', a3, a4, a5, a6, a7, a8, a9, a10, a11, a12, a13, a14, a15, a16, a17) → k m' = true → P a') : vp_in x 5 ∧ ∀ a', a' = upd a2 x.toNatClampNeg v → P a' := by
  refine zq_vi hx h (fun hc h => ?_)
  intro a' ea
  obtain ⟨m2, hm, h⟩ := zq_fo_e h
  exact hp a' m2 (zq_w2 hR ea hx hc hv hm) h
theorem zq_w3 {pl sg : Nat → Nat → Int32} {m : Nat} {f1 f2 f3 f4 : Int32} {a1 a2 a3 a4 a5 a6 a7 a8 a9 a10 a11 a12 a13 a14 a15 a16 a17 : Nat → Int32} {m' c w : Nat} {x v : Int32} {a' : Nat → Int32} (hR : zq_R pl sg m (f1, f2, f3, f4, a1, a2, a3, a4, a5, a6, a7, a8, a9, a10, a11, a12, a13, a14, a15, a16, a17)) (ea : a' = upd a3 x.toNatClampNeg v) (hx : x = nI c) (hc : zq_bl c 5 = true) (hv : v = nI w) (hm : m' = zq_wr m (Nat.add 14 c) w) : zq_R pl sg m' (f1, f2, f3, f4, a1, a2, a', a4, a5, a6, a7, a8, a9, a10, a11, a12, a13, a14, a15, a16, a17) := by
  obtain ⟨r1, r2, r3, r4, r5, r6, r7, r8, r9, r10, r11, r12, r13, r14, r15, r16, r17, r18, r19, r20, r21⟩ := hR
  have q := zq_bl_s hc
  have hq : Nat.add 14 c = 14 + c := rfl
  exact ⟨(r1.trans (congrArg nI (zq_rw_n hm (by omega)).symm)), (r2.trans (congrArg nI (zq_rw_n hm (by omega)).symm)), (r3.trans (congrArg nI (zq_rw_n hm (by omega)).symm)), (r4.trans (congrArg nI (zq_rw_n hm (by omega)).symm)), (zq_S_k r5 hm (by omega)), (zq_S_k r6 hm (by omega)), (zq_S_u r7 ea hx hc hv hm (by decide)), (zq_S_k r8 hm (by omega)), (zq_S_k r9 hm (by omega)), (zq_S_k r10 hm (by omega)), (zq_S_k r11 hm (by omega)), (zq_S_k r12 hm (by omega)), (zq_S_k r13 hm (by omega)), (zq_L_k r14 hm (by omega)), (zq_S_k r15 hm (by omega)), (zq_A_k r16 hm (by omega)), (zq_A_k r17 hm (by omega)), (zq_S_k r18 hm (by omega)), (zq_S_k r19 hm (by omega)), (zq_Q_k r20 hm (by omega)), (zq_M_k r21 hm (by omega))⟩
theorem zq_st3 {pl sg : Nat → Nat → Int32} {m : Nat} {f1 f2 f3 f4 : Int32} {a1 a2 a3 a4 a5 a6 a7 a8 a9 a10 a11 a12 a13 a14 a15 a16 a17 : Nat → Int32} {c w : Nat} {x v : Int32} {k : Nat → Bool} {P : (Nat → Int32) → Prop} (hR : zq_R pl sg m (f1, f2, f3, f4, a1, a2, a3, a4, a5, a6, a7, a8, a9, a10, a11, a12, a13, a14, a15, a16, a17)) (hx : x = nI c) (hv : v = nI w) (h : zq_bc (zq_bl c 5) (zq_fo (zq_wr m (Nat.add 14 c) w) k) false = true) (hp : ∀ (a' : Nat → Int32) (m' : Nat), zq_R pl sg m' (f1, f2, f3, f4, a1, a2, a', a4, a5, a6, a7, a8, a9, a10, a11, a12, a13, a14, a15, a16, a17) → k m' = true → P a') : vp_in x 5 ∧ ∀ a', a' = upd a3 x.toNatClampNeg v → P a' := by
  refine zq_vi hx h (fun hc h => ?_)
  intro a' ea
  obtain ⟨m2, hm, h⟩ := zq_fo_e h
  exact hp a' m2 (zq_w3 hR ea hx hc hv hm) h
theorem zq_w4 {pl sg : Nat → Nat → Int32} {m : Nat} {f1 f2 f3 f4 : Int32} {a1 a2 a3 a4 a5 a6 a7 a8 a9 a10 a11 a12 a13 a14 a15 a16 a17 : Nat → Int32} {m' c w : Nat} {x v : Int32} {a' : Nat → Int32} (hR : zq_R pl sg m (f1, f2, f3, f4, a1, a2, a3, a4, a5, a6, a7, a8, a9, a10, a11, a12, a13, a14, a15, a16, a17)) (ea : a' = upd a4 x.toNatClampNeg v) (hx : x = nI c) (hc : zq_bl c 5 = true) (hv : v = nI w) (hm : m' = zq_wr m (Nat.add 19 c) w) : zq_R pl sg m' (f1, f2, f3, f4, a1, a2, a3, a', a5, a6, a7, a8, a9, a10, a11, a12, a13, a14, a15, a16, a17) := by
  obtain ⟨r1, r2, r3, r4, r5, r6, r7, r8, r9, r10, r11, r12, r13, r14, r15, r16, r17, r18, r19, r20, r21⟩ := hR
  have q := zq_bl_s hc
  have hq : Nat.add 19 c = 19 + c := rfl
  exact ⟨(r1.trans (congrArg nI (zq_rw_n hm (by omega)).symm)), (r2.trans (congrArg nI (zq_rw_n hm (by omega)).symm)), (r3.trans (congrArg nI (zq_rw_n hm (by omega)).symm)), (r4.trans (congrArg nI (zq_rw_n hm (by omega)).symm)), (zq_S_k r5 hm (by omega)), (zq_S_k r6 hm (by omega)), (zq_S_k r7 hm (by omega)), (zq_S_u r8 ea hx hc hv hm (by decide)), (zq_S_k r9 hm (by omega)), (zq_S_k r10 hm (by omega)), (zq_S_k r11 hm (by omega)), (zq_S_k r12 hm (by omega)), (zq_S_k r13 hm (by omega)), (zq_L_k r14 hm (by omega)), (zq_S_k r15 hm (by omega)), (zq_A_k r16 hm (by omega)), (zq_A_k r17 hm (by omega)), (zq_S_k r18 hm (by omega)), (zq_S_k r19 hm (by omega)), (zq_Q_k r20 hm (by omega)), (zq_M_k r21 hm (by omega))⟩
theorem zq_st4 {pl sg : Nat → Nat → Int32} {m : Nat} {f1 f2 f3 f4 : Int32} {a1 a2 a3 a4 a5 a6 a7 a8 a9 a10 a11 a12 a13 a14 a15 a16 a17 : Nat → Int32} {c w : Nat} {x v : Int32} {k : Nat → Bool} {P : (Nat → Int32) → Prop} (hR : zq_R pl sg m (f1, f2, f3, f4, a1, a2, a3, a4, a5, a6, a7, a8, a9, a10, a11, a12, a13, a14, a15, a16, a17)) (hx : x = nI c) (hv : v = nI w) (h : zq_bc (zq_bl c 5) (zq_fo (zq_wr m (Nat.add 19 c) w) k) false = true) (hp : ∀ (a' : Nat → Int32) (m' : Nat), zq_R pl sg m' (f1, f2, f3, f4, a1, a2, a3, a', a5, a6, a7, a8, a9, a10, a11, a12, a13, a14, a15, a16, a17) → k m' = true → P a') : vp_in x 5 ∧ ∀ a', a' = upd a4 x.toNatClampNeg v → P a' := by
  refine zq_vi hx h (fun hc h => ?_)
  intro a' ea
  obtain ⟨m2, hm, h⟩ := zq_fo_e h
  exact hp a' m2 (zq_w4 hR ea hx hc hv hm) h
theorem zq_w5 {pl sg : Nat → Nat → Int32} {m : Nat} {f1 f2 f3 f4 : Int32} {a1 a2 a3 a4 a5 a6 a7 a8 a9 a10 a11 a12 a13 a14 a15 a16 a17 : Nat → Int32} {m' c w : Nat} {x v : Int32} {a' : Nat → Int32} (hR : zq_R pl sg m (f1, f2, f3, f4, a1, a2, a3, a4, a5, a6, a7, a8, a9, a10, a11, a12, a13, a14, a15, a16, a17)) (ea : a' = upd a5 x.toNatClampNeg v) (hx : x = nI c) (hc : zq_bl c 5 = true) (hv : v = nI w) (hm : m' = zq_wr m (Nat.add 24 c) w) : zq_R pl sg m' (f1, f2, f3, f4, a1, a2, a3, a4, a', a6, a7, a8, a9, a10, a11, a12, a13, a14, a15, a16, a17) := by
  obtain ⟨r1, r2, r3, r4, r5, r6, r7, r8, r9, r10, r11, r12, r13, r14, r15, r16, r17, r18, r19, r20, r21⟩ := hR
  have q := zq_bl_s hc
  have hq : Nat.add 24 c = 24 + c := rfl
  exact ⟨(r1.trans (congrArg nI (zq_rw_n hm (by omega)).symm)), (r2.trans (congrArg nI (zq_rw_n hm (by omega)).symm)), (r3.trans (congrArg nI (zq_rw_n hm (by omega)).symm)), (r4.trans (congrArg nI (zq_rw_n hm (by omega)).symm)), (zq_S_k r5 hm (by omega)), (zq_S_k r6 hm (by omega)), (zq_S_k r7 hm (by omega)), (zq_S_k r8 hm (by omega)), (zq_S_u r9 ea hx hc hv hm (by decide)), (zq_S_k r10 hm (by omega)), (zq_S_k r11 hm (by omega)), (zq_S_k r12 hm (by omega)), (zq_S_k r13 hm (by omega)), (zq_L_k r14 hm (by omega)), (zq_S_k r15 hm (by omega)), (zq_A_k r16 hm (by omega)), (zq_A_k r17 hm (by omega)), (zq_S_k r18 hm (by omega)), (zq_S_k r19 hm (by omega)), (zq_Q_k r20 hm (by omega)), (zq_M_k r21 hm (by omega))⟩
theorem zq_st5 {pl sg : Nat → Nat → Int32} {m : Nat} {f1 f2 f3 f4 : Int32} {a1 a2 a3 a4 a5 a6 a7 a8 a9 a10 a11 a12 a13 a14 a15 a16 a17 : Nat → Int32} {c w : Nat} {x v : Int32} {k : Nat → Bool} {P : (Nat → Int32) → Prop} (hR : zq_R pl sg m (f1, f2, f3, f4, a1, a2, a3, a4, a5, a6, a7, a8, a9, a10, a11, a12, a13, a14, a15, a16, a17)) (hx : x = nI c) (hv : v = nI w) (h : zq_bc (zq_bl c 5) (zq_fo (zq_wr m (Nat.add 24 c) w) k) false = true) (hp : ∀ (a' : Nat → Int32) (m' : Nat), zq_R pl sg m' (f1, f2, f3, f4, a1, a2, a3, a4, a', a6, a7, a8, a9, a10, a11, a12, a13, a14, a15, a16, a17) → k m' = true → P a') : vp_in x 5 ∧ ∀ a', a' = upd a5 x.toNatClampNeg v → P a' := by
  refine zq_vi hx h (fun hc h => ?_)
  intro a' ea
  obtain ⟨m2, hm, h⟩ := zq_fo_e h
  exact hp a' m2 (zq_w5 hR ea hx hc hv hm) h
theorem zq_w6 {pl sg : Nat → Nat → Int32} {m : Nat} {f1 f2 f3 f4 : Int32} {a1 a2 a3 a4 a5 a6 a7 a8 a9 a10 a11 a12 a13 a14 a15 a16 a17 : Nat → Int32} {m' c w : Nat} {x v : Int32} {a' : Nat → Int32} (hR : zq_R pl sg m (f1, f2, f3, f4, a1, a2, a3, a4, a5, a6, a7, a8, a9, a10, a11, a12, a13, a14, a15, a16, a17)) (ea : a' = upd a6 x.toNatClampNeg v) (hx : x = nI c) (hc : zq_bl c 5 = true) (hv : v = nI w) (hm : m' = zq_wr m (Nat.add 29 c) w) : zq_R pl sg m' (f1, f2, f3, f4, a1, a2, a3, a4, a5, a', a7, a8, a9, a10, a11, a12, a13, a14, a15, a16, a17) := by
  obtain ⟨r1, r2, r3, r4, r5, r6, r7, r8, r9, r10, r11, r12, r13, r14, r15, r16, r17, r18, r19, r20, r21⟩ := hR
  have q := zq_bl_s hc
  have hq : Nat.add 29 c = 29 + c := rfl
  exact ⟨(r1.trans (congrArg nI (zq_rw_n hm (by omega)).symm)), (r2.trans (congrArg nI (zq_rw_n hm (by omega)).symm)), (r3.trans (congrArg nI (zq_rw_n hm (by omega)).symm)), (r4.trans (congrArg nI (zq_rw_n hm (by omega)).symm)), (zq_S_k r5 hm (by omega)), (zq_S_k r6 hm (by omega)), (zq_S_k r7 hm (by omega)), (zq_S_k r8 hm (by omega)), (zq_S_k r9 hm (by omega)), (zq_S_u r10 ea hx hc hv hm (by decide)), (zq_S_k r11 hm (by omega)), (zq_S_k r12 hm (by omega)), (zq_S_k r13 hm (by omega)), (zq_L_k r14 hm (by omega)), (zq_S_k r15 hm (by omega)), (zq_A_k r16 hm (by omega)), (zq_A_k r17 hm (by omega)), (zq_S_k r18 hm (by omega)), (zq_S_k r19 hm (by omega)), (zq_Q_k r20 hm (by omega)), (zq_M_k r21 hm (by omega))⟩
theorem zq_st6 {pl sg : Nat → Nat → Int32} {m : Nat} {f1 f2 f3 f4 : Int32} {a1 a2 a3 a4 a5 a6 a7 a8 a9 a10 a11 a12 a13 a14 a15 a16 a17 : Nat → Int32} {c w : Nat} {x v : Int32} {k : Nat → Bool} {P : (Nat → Int32) → Prop} (hR : zq_R pl sg m (f1, f2, f3, f4, a1, a2, a3, a4, a5, a6, a7, a8, a9, a10, a11, a12, a13, a14, a15, a16, a17)) (hx : x = nI c) (hv : v = nI w) (h : zq_bc (zq_bl c 5) (zq_fo (zq_wr m (Nat.add 29 c) w) k) false = true) (hp : ∀ (a' : Nat → Int32) (m' : Nat), zq_R pl sg m' (f1, f2, f3, f4, a1, a2, a3, a4, a5, a', a7, a8, a9, a10, a11, a12, a13, a14, a15, a16, a17) → k m' = true → P a') : vp_in x 5 ∧ ∀ a', a' = upd a6 x.toNatClampNeg v → P a' := by
  refine zq_vi hx h (fun hc h => ?_)
  intro a' ea
  obtain ⟨m2, hm, h⟩ := zq_fo_e h
  exact hp a' m2 (zq_w6 hR ea hx hc hv hm) h
theorem zq_w7 {pl sg : Nat → Nat → Int32} {m : Nat} {f1 f2 f3 f4 : Int32} {a1 a2 a3 a4 a5 a6 a7 a8 a9 a10 a11 a12 a13 a14 a15 a16 a17 : Nat → Int32} {m' c w : Nat} {x v : Int32} {a' : Nat → Int32} (hR : zq_R pl sg m (f1, f2, f3, f4, a1, a2, a3, a4, a5, a6, a7, a8, a9, a10, a11, a12, a13, a14, a15, a16, a17)) (ea : a' = upd a7 x.toNatClampNeg v) (hx : x = nI c) (hc : zq_bl c 5 = true) (hv : v = nI w) (hm : m' = zq_wr m (Nat.add 34 c) w) : zq_R pl sg m' (f1, f2, f3, f4, a1, a2, a3, a4, a5, a6, a', a8, a9, a10, a11, a12, a13, a14, a15, a16, a17) := by
  obtain ⟨r1, r2, r3, r4, r5, r6, r7, r8, r9, r10, r11, r12, r13, r14, r15, r16, r17, r18, r19, r20, r21⟩ := hR
  have q := zq_bl_s hc
  have hq : Nat.add 34 c = 34 + c := rfl
  exact ⟨(r1.trans (congrArg nI (zq_rw_n hm (by omega)).symm)), (r2.trans (congrArg nI (zq_rw_n hm (by omega)).symm)), (r3.trans (congrArg nI (zq_rw_n hm (by omega)).symm)), (r4.trans (congrArg nI (zq_rw_n hm (by omega)).symm)), (zq_S_k r5 hm (by omega)), (zq_S_k r6 hm (by omega)), (zq_S_k r7 hm (by omega)), (zq_S_k r8 hm (by omega)), (zq_S_k r9 hm (by omega)), (zq_S_k r10 hm (by omega)), (zq_S_u r11 ea hx hc hv hm (by decide)), (zq_S_k r12 hm (by omega)), (zq_S_k r13 hm (by omega)), (zq_L_k r14 hm (by omega)), (zq_S_k r15 hm (by omega)), (zq_A_k r16 hm (by omega)), (zq_A_k r17 hm (by omega)), (zq_S_k r18 hm (by omega)), (zq_S_k r19 hm (by omega)), (zq_Q_k r20 hm (by omega)), (zq_M_k r21 hm (by omega))⟩
theorem zq_st7 {pl sg : Nat → Nat → Int32} {m : Nat} {f1 f2 f3 f4 : Int32} {a1 a2 a3 a4 a5 a6 a7 a8 a9 a10 a11 a12 a13 a14 a15 a16 a17 : Nat → Int32} {c w : Nat} {x v : Int32} {k : Nat → Bool} {P : (Nat → Int32) → Prop} (hR : zq_R pl sg m (f1, f2, f3, f4, a1, a2, a3, a4, a5, a6, a7, a8, a9, a10, a11, a12, a13, a14, a15, a16, a17)) (hx : x = nI c) (hv : v = nI w) (h : zq_bc (zq_bl c 5) (zq_fo (zq_wr m (Nat.add 34 c) w) k) false = true) (hp : ∀ (a' : Nat → Int32) (m' : Nat), zq_R pl sg m' (f1, f2, f3, f4, a1, a2, a3, a4, a5, a6, a', a8, a9, a10, a11, a12, a13, a14, a15, a16, a17) → k m' = true → P a') : vp_in x 5 ∧ ∀ a', a' = upd a7 x.toNatClampNeg v → P a' := by
  refine zq_vi hx h (fun hc h => ?_)
  intro a' ea
  obtain ⟨m2, hm, h⟩ := zq_fo_e h
  exact hp a' m2 (zq_w7 hR ea hx hc hv hm) h
theorem zq_w8 {pl sg : Nat → Nat → Int32} {m : Nat} {f1 f2 f3 f4 : Int32} {a1 a2 a3 a4 a5 a6 a7 a8 a9 a10 a11 a12 a13 a14 a15 a16 a17 : Nat → Int32} {m' c w : Nat} {x v : Int32} {a' : Nat → Int32} (hR : zq_R pl sg m (f1, f2, f3, f4, a1, a2, a3, a4, a5, a6, a7, a8, a9, a10, a11, a12, a13, a14, a15, a16, a17)) (ea : a' = upd a8 x.toNatClampNeg v) (hx : x = nI c) (hc : zq_bl c 5 = true) (hv : v = nI w) (hm : m' = zq_wr m (Nat.add 39 c) w) : zq_R pl sg m' (f1, f2, f3, f4, a1, a2, a3, a4, a5, a6, a7, a', a9, a10, a11, a12, a13, a14, a15, a16, a17) := by
  obtain ⟨r1, r2, r3, r4, r5, r6, r7, r8, r9, r10, r11, r12, r13, r14, r15, r16, r17, r18, r19, r20, r21⟩ := hR
  have q := zq_bl_s hc
  have hq : Nat.add 39 c = 39 + c := rfl
  exact ⟨(r1.trans (congrArg nI (zq_rw_n hm (by omega)).symm)), (r2.trans (congrArg nI (zq_rw_n hm (by omega)).symm)), (r3.trans (congrArg nI (zq_rw_n hm (by omega)).symm)), (r4.trans (congrArg nI (zq_rw_n hm (by omega)).symm)), (zq_S_k r5 hm (by omega)), (zq_S_k r6 hm (by omega)), (zq_S_k r7 hm (by omega)), (zq_S_k r8 hm (by omega)), (zq_S_k r9 hm (by omega)), (zq_S_k r10 hm (by omega)), (zq_S_k r11 hm (by omega)), (zq_S_u r12 ea hx hc hv hm (by decide)), (zq_S_k r13 hm (by omega)), (zq_L_k r14 hm (by omega)), (zq_S_k r15 hm (by omega)), (zq_A_k r16 hm (by omega)), (zq_A_k r17 hm (by omega)), (zq_S_k r18 hm (by omega)), (zq_S_k r19 hm (by omega)), (zq_Q_k r20 hm (by omega)), (zq_M_k r21 hm (by omega))⟩
theorem zq_st8 {pl sg : Nat → Nat → Int32} {m : Nat} {f1 f2 f3 f4 : Int32} {a1 a2 a3 a4 a5 a6 a7 a8 a9 a10 a11 a12 a13 a14 a15 a16 a17 : Nat → Int32} {c w : Nat} {x v : Int32} {k : Nat → Bool} {P : (Nat → Int32) → Prop} (hR : zq_R pl sg m (f1, f2, f3, f4, a1, a2, a3, a4, a5, a6, a7, a8, a9, a10, a11, a12, a13, a14, a15, a16, a17)) (hx : x = nI c) (hv : v = nI w) (h : zq_bc (zq_bl c 5) (zq_fo (zq_wr m (Nat.add 39 c) w) k) false = true) (hp : ∀ (a' : Nat → Int32) (m' : Nat), zq_R pl sg m' (f1, f2, f3, f4, a1, a2, a3, a4, a5, a6, a7, a', a9, a10, a11, a12, a13, a14, a15, a16, a17) → k m' = true → P a') : vp_in x 5 ∧ ∀ a', a' = upd a8 x.toNatClampNeg v → P a' := by
  refine zq_vi hx h (fun hc h => ?_)
  intro a' ea
  obtain ⟨m2, hm, h⟩ := zq_fo_e h
  exact hp a' m2 (zq_w8 hR ea hx hc hv hm) h
theorem zq_w9 {pl sg : Nat → Nat → Int32} {m : Nat} {f1 f2 f3 f4 : Int32} {a1 a2 a3 a4 a5 a6 a7 a8 a9 a10 a11 a12 a13 a14 a15 a16 a17 : Nat → Int32} {m' c w : Nat} {x v : Int32} {a' : Nat → Int32} (hR : zq_R pl sg m (f1, f2, f3, f4, a1, a2, a3, a4, a5, a6, a7, a8, a9, a10, a11, a12, a13, a14, a15, a16, a17)) (ea : a' = upd a9 x.toNatClampNeg v) (hx : x = nI c) (hc : zq_bl c 5 = true) (hv : v = nI w) (hm : m' = zq_wr m (Nat.add 44 c) w) : zq_R pl sg m' (f1, f2, f3, f4, a1, a2, a3, a4, a5, a6, a7, a8, a', a10, a11, a12, a13, a14, a15, a16, a17) := by
  obtain ⟨r1, r2, r3, r4, r5, r6, r7, r8, r9, r10, r11, r12, r13, r14, r15, r16, r17, r18, r19, r20, r21⟩ := hR
  have q := zq_bl_s hc
  have hq : Nat.add 44 c = 44 + c := rfl
  exact ⟨(r1.trans (congrArg nI (zq_rw_n hm (by omega)).symm)), (r2.trans (congrArg nI (zq_rw_n hm (by omega)).symm)), (r3.trans (congrArg nI (zq_rw_n hm (by omega)).symm)), (r4.trans (congrArg nI (zq_rw_n hm (by omega)).symm)), (zq_S_k r5 hm (by omega)), (zq_S_k r6 hm (by omega)), (zq_S_k r7 hm (by omega)), (zq_S_k r8 hm (by omega)), (zq_S_k r9 hm (by omega)), (zq_S_k r10 hm (by omega)), (zq_S_k r11 hm (by omega)), (zq_S_k r12 hm (by omega)), (zq_S_u r13 ea hx hc hv hm (by decide)), (zq_L_k r14 hm (by omega)), (zq_S_k r15 hm (by omega)), (zq_A_k r16 hm (by omega)), (zq_A_k r17 hm (by omega)), (zq_S_k r18 hm (by omega)), (zq_S_k r19 hm (by omega)), (zq_Q_k r20 hm (by omega)), (zq_M_k r21 hm (by omega))⟩
theorem zq_st9 {pl sg : Nat → Nat → Int32} {m : Nat} {f1 f2 f3 f4 : Int32} {a1 a2 a3 a4 a5 a6 a7 a8 a9 a10 a11 a12 a13 a14 a15 a16 a17 : Nat → Int32} {c w : Nat} {x v : Int32} {k : Nat → Bool} {P : (Nat → Int32) → Prop} (hR : zq_R pl sg m (f1, f2, f3, f4, a1, a2, a3, a4, a5, a6, a7, a8, a9, a10, a11, a12, a13, a14, a15, a16, a17)) (hx : x = nI c) (hv : v = nI w) (h : zq_bc (zq_bl c 5) (zq_fo (zq_wr m (Nat.add 44 c) w) k) false = true) (hp : ∀ (a' : Nat → Int32) (m' : Nat), zq_R pl sg m' (f1, f2, f3, f4, a1, a2, a3, a4, a5, a6, a7, a8, a', a10, a11, a12, a13, a14, a15, a16, a17) → k m' = true → P a') : vp_in x 5 ∧ ∀ a', a' = upd a9 x.toNatClampNeg v → P a' := by
  refine zq_vi hx h (fun hc h => ?_)
  intro a' ea
  obtain ⟨m2, hm, h⟩ := zq_fo_e h
  exact hp a' m2 (zq_w9 hR ea hx hc hv hm) h
theorem zq_w11 {pl sg : Nat → Nat → Int32} {m : Nat} {f1 f2 f3 f4 : Int32} {a1 a2 a3 a4 a5 a6 a7 a8 a9 a10 a11 a12 a13 a14 a15 a16 a17 : Nat → Int32} {m' c w : Nat} {x v : Int32} {a' : Nat → Int32} (hR : zq_R pl sg m (f1, f2, f3, f4, a1, a2, a3, a4, a5, a6, a7, a8, a9, a10, a11, a12, a13, a14, a15, a16, a17)) (ea : a' = upd a11 x.toNatClampNeg v) (hx : x = nI c) (hc : zq_bl c 5 = true) (hv : v = nI w) (hm : m' = zq_wr m (Nat.add 49 c) w) : zq_R pl sg m' (f1, f2, f3, f4, a1, a2, a3, a4, a5, a6, a7, a8, a9, a10, a', a12, a13, a14, a15, a16, a17) := by
  obtain ⟨r1, r2, r3, r4, r5, r6, r7, r8, r9, r10, r11, r12, r13, r14, r15, r16, r17, r18, r19, r20, r21⟩ := hR
  have q := zq_bl_s hc
  have hq : Nat.add 49 c = 49 + c := rfl
  exact ⟨(r1.trans (congrArg nI (zq_rw_n hm (by omega)).symm)), (r2.trans (congrArg nI (zq_rw_n hm (by omega)).symm)), (r3.trans (congrArg nI (zq_rw_n hm (by omega)).symm)), (r4.trans (congrArg nI (zq_rw_n hm (by omega)).symm)), (zq_S_k r5 hm (by omega)), (zq_S_k r6 hm (by omega)), (zq_S_k r7 hm (by omega)), (zq_S_k r8 hm (by omega)), (zq_S_k r9 hm (by omega)), (zq_S_k r10 hm (by omega)), (zq_S_k r11 hm (by omega)), (zq_S_k r12 hm (by omega)), (zq_S_k r13 hm (by omega)), (zq_L_k r14 hm (by omega)), (zq_S_u r15 ea hx hc hv hm (by decide)), (zq_A_k r16 hm (by omega)), (zq_A_k r17 hm (by omega)), (zq_S_k r18 hm (by omega)), (zq_S_k r19 hm (by omega)), (zq_Q_k r20 hm (by omega)), (zq_M_k r21 hm (by omega))⟩
theorem zq_st11 {pl sg : Nat → Nat → Int32} {m : Nat} {f1 f2 f3 f4 : Int32} {a1 a2 a3 a4 a5 a6 a7 a8 a9 a10 a11 a12 a13 a14 a15 a16 a17 : Nat → Int32} {c w : Nat} {x v : Int32} {k : Nat → Bool} {P : (Nat → Int32) → Prop} (hR : zq_R pl sg m (f1, f2, f3, f4, a1, a2, a3, a4, a5, a6, a7, a8, a9, a10, a11, a12, a13, a14, a15, a16, a17)) (hx : x = nI c) (hv : v = nI w) (h : zq_bc (zq_bl c 5) (zq_fo (zq_wr m (Nat.add 49 c) w) k) false = true) (hp : ∀ (a' : Nat → Int32) (m' : Nat), zq_R pl sg m' (f1, f2, f3, f4, a1, a2, a3, a4, a5, a6, a7, a8, a9, a10, a', a12, a13, a14, a15, a16, a17) → k m' = true → P a') : vp_in x 5 ∧ ∀ a', a' = upd a11 x.toNatClampNeg v → P a' := by
  refine zq_vi hx h (fun hc h => ?_)
  intro a' ea
  obtain ⟨m2, hm, h⟩ := zq_fo_e h
  exact hp a' m2 (zq_w11 hR ea hx hc hv hm) h
theorem zq_w14 {pl sg : Nat → Nat → Int32} {m : Nat} {f1 f2 f3 f4 : Int32} {a1 a2 a3 a4 a5 a6 a7 a8 a9 a10 a11 a12 a13 a14 a15 a16 a17 : Nat → Int32} {m' c w : Nat} {x v : Int32} {a' : Nat → Int32} (hR : zq_R pl sg m (f1, f2, f3, f4, a1, a2, a3, a4, a5, a6, a7, a8, a9, a10, a11, a12, a13, a14, a15, a16, a17)) (ea : a' = upd a14 x.toNatClampNeg v) (hx : x = nI c) (hc : zq_bl c 25 = true) (hv : v = nI w) (hm : m' = zq_wr m (Nat.add 64 c) w) : zq_R pl sg m' (f1, f2, f3, f4, a1, a2, a3, a4, a5, a6, a7, a8, a9, a10, a11, a12, a13, a', a15, a16, a17) := by
  obtain ⟨r1, r2, r3, r4, r5, r6, r7, r8, r9, r10, r11, r12, r13, r14, r15, r16, r17, r18, r19, r20, r21⟩ := hR
  have q := zq_bl_s hc
  have hq : Nat.add 64 c = 64 + c := rfl
  exact ⟨(r1.trans (congrArg nI (zq_rw_n hm (by omega)).symm)), (r2.trans (congrArg nI (zq_rw_n hm (by omega)).symm)), (r3.trans (congrArg nI (zq_rw_n hm (by omega)).symm)), (r4.trans (congrArg nI (zq_rw_n hm (by omega)).symm)), (zq_S_k r5 hm (by omega)), (zq_S_k r6 hm (by omega)), (zq_S_k r7 hm (by omega)), (zq_S_k r8 hm (by omega)), (zq_S_k r9 hm (by omega)), (zq_S_k r10 hm (by omega)), (zq_S_k r11 hm (by omega)), (zq_S_k r12 hm (by omega)), (zq_S_k r13 hm (by omega)), (zq_L_k r14 hm (by omega)), (zq_S_k r15 hm (by omega)), (zq_A_k r16 hm (by omega)), (zq_A_k r17 hm (by omega)), (zq_S_u r18 ea hx hc hv hm (by decide)), (zq_S_k r19 hm (by omega)), (zq_Q_k r20 hm (by omega)), (zq_M_k r21 hm (by omega))⟩
theorem zq_st14 {pl sg : Nat → Nat → Int32} {m : Nat} {f1 f2 f3 f4 : Int32} {a1 a2 a3 a4 a5 a6 a7 a8 a9 a10 a11 a12 a13 a14 a15 a16 a17 : Nat → Int32} {c w : Nat} {x v : Int32} {k : Nat → Bool} {P : (Nat → Int32) → Prop} (hR : zq_R pl sg m (f1, f2, f3, f4, a1, a2, a3, a4, a5, a6, a7, a8, a9, a10, a11, a12, a13, a14, a15, a16, a17)) (hx : x = nI c) (hv : v = nI w) (h : zq_bc (zq_bl c 25) (zq_fo (zq_wr m (Nat.add 64 c) w) k) false = true) (hp : ∀ (a' : Nat → Int32) (m' : Nat), zq_R pl sg m' (f1, f2, f3, f4, a1, a2, a3, a4, a5, a6, a7, a8, a9, a10, a11, a12, a13, a', a15, a16, a17) → k m' = true → P a') : vp_in x 25 ∧ ∀ a', a' = upd a14 x.toNatClampNeg v → P a' := by
  refine zq_vi hx h (fun hc h => ?_)
  intro a' ea
  obtain ⟨m2, hm, h⟩ := zq_fo_e h
  exact hp a' m2 (zq_w14 hR ea hx hc hv hm) h
theorem zq_w15 {pl sg : Nat → Nat → Int32} {m : Nat} {f1 f2 f3 f4 : Int32} {a1 a2 a3 a4 a5 a6 a7 a8 a9 a10 a11 a12 a13 a14 a15 a16 a17 : Nat → Int32} {m' c w : Nat} {x v : Int32} {a' : Nat → Int32} (hR : zq_R pl sg m (f1, f2, f3, f4, a1, a2, a3, a4, a5, a6, a7, a8, a9, a10, a11, a12, a13, a14, a15, a16, a17)) (ea : a' = upd a15 x.toNatClampNeg v) (hx : x = nI c) (hc : zq_bl c 25 = true) (hv : v = nI w) (hm : m' = zq_wr m (Nat.add 89 c) w) : zq_R pl sg m' (f1, f2, f3, f4, a1, a2, a3, a4, a5, a6, a7, a8, a9, a10, a11, a12, a13, a14, a', a16, a17) := by
  obtain ⟨r1, r2, r3, r4, r5, r6, r7, r8, r9, r10, r11, r12, r13, r14, r15, r16, r17, r18, r19, r20, r21⟩ := hR
  have q := zq_bl_s hc
  have hq : Nat.add 89 c = 89 + c := rfl
  exact ⟨(r1.trans (congrArg nI (zq_rw_n hm (by omega)).symm)), (r2.trans (congrArg nI (zq_rw_n hm (by omega)).symm)), (r3.trans (congrArg nI (zq_rw_n hm (by omega)).symm)), (r4.trans (congrArg nI (zq_rw_n hm (by omega)).symm)), (zq_S_k r5 hm (by omega)), (zq_S_k r6 hm (by omega)), (zq_S_k r7 hm (by omega)), (zq_S_k r8 hm (by omega)), (zq_S_k r9 hm (by omega)), (zq_S_k r10 hm (by omega)), (zq_S_k r11 hm (by omega)), (zq_S_k r12 hm (by omega)), (zq_S_k r13 hm (by omega)), (zq_L_k r14 hm (by omega)), (zq_S_k r15 hm (by omega)), (zq_A_k r16 hm (by omega)), (zq_A_k r17 hm (by omega)), (zq_S_k r18 hm (by omega)), (zq_S_u r19 ea hx hc hv hm (by decide)), (zq_Q_k r20 hm (by omega)), (zq_M_k r21 hm (by omega))⟩
theorem zq_st15 {pl sg : Nat → Nat → Int32} {m : Nat} {f1 f2 f3 f4 : Int32} {a1 a2 a3 a4 a5 a6 a7 a8 a9 a10 a11 a12 a13 a14 a15 a16 a17 : Nat → Int32} {c w : Nat} {x v : Int32} {k : Nat → Bool} {P : (Nat → Int32) → Prop} (hR : zq_R pl sg m (f1, f2, f3, f4, a1, a2, a3, a4, a5, a6, a7, a8, a9, a10, a11, a12, a13, a14, a15, a16, a17)) (hx : x = nI c) (hv : v = nI w) (h : zq_bc (zq_bl c 25) (zq_fo (zq_wr m (Nat.add 89 c) w) k) false = true) (hp : ∀ (a' : Nat → Int32) (m' : Nat), zq_R pl sg m' (f1, f2, f3, f4, a1, a2, a3, a4, a5, a6, a7, a8, a9, a10, a11, a12, a13, a14, a', a16, a17) → k m' = true → P a') : vp_in x 25 ∧ ∀ a', a' = upd a15 x.toNatClampNeg v → P a' := by
  refine zq_vi hx h (fun hc h => ?_)
  intro a' ea
  obtain ⟨m2, hm, h⟩ := zq_fo_e h
  exact hp a' m2 (zq_w15 hR ea hx hc hv hm) h
theorem zq_A_u {sg : Nat → Nat → Int32} {m m' c w o : Nat} {a a' : Nat → Int32} {x v : Int32} (h : zq_A sg m o a) (ea : a' = upd a x.toNatClampNeg v) (hx : x = nI c) (hc : zq_bl c 75 = true) (h7 : Nat.beq (Nat.mod c 15) 14 = true) (hw : zq_bl w 64 = true) (hv : v = nI w) (hm : m' = zq_wr m (Nat.add o (Nat.div c 15)) (Nat.add (Nat.mul (Nat.div (zq_rd m (Nat.add o (Nat.div c 15))) 64) 64) w)) : zq_A sg m' o a' := by
  intro n j hn hj
  rw [ea, zq_cl hx (zq_bl_s hc) (by decide)]
  have h7 : c % 15 = 14 := zq_beq_s h7
  have hc := zq_bl_s hc
  have hw := zq_bl_s hw
  have hlt := zq_rd_lt m (o + n)
  by_cases en : n = c / 15
  · have e1 : zq_rd m' (o + n) = (zq_rd m (o + n) / 64) * 64 + w := by
      rw [en]
      rw [zq_rw_e (i := o + c / 15) hm]
      have hlt := zq_rd_lt m (o + c / 15)
      show ((zq_rd m (o + c / 15)) / 64 * 64 + w) % 4294967296 = _
      omega
    rw [e1]
    by_cases ej : j = 14
    · have e2 : 15 * n + j = c := by omega
      rw [e2, pk_us, hv]
      unfold zq_ac
      rw [if_pos ej]
      apply congrArg nI
      omega
    · have e2 : 15 * n + j ≠ c := by omega
      rw [pk_un e2, h n j hn hj]
      unfold zq_ac
      rw [if_neg ej, if_neg ej]
      have e3 : (zq_rd m (o + n) / 64 * 64 + w) / 64 = zq_rd m (o + n) / 64 := by omega
      rw [e3]
  · have e2 : 15 * n + j ≠ c := by omega
    rw [pk_un e2, h n j hn hj, zq_rw_n hm (j := o + n)]
    show o + n ≠ o + c / 15
    omega
theorem zq_w12m {pl sg : Nat → Nat → Int32} {m : Nat} {f1 f2 f3 f4 : Int32} {a1 a2 a3 a4 a5 a6 a7 a8 a9 a10 a11 a12 a13 a14 a15 a16 a17 : Nat → Int32} {m' c w : Nat} {x v : Int32} {a' : Nat → Int32} (hR : zq_R pl sg m (f1, f2, f3, f4, a1, a2, a3, a4, a5, a6, a7, a8, a9, a10, a11, a12, a13, a14, a15, a16, a17)) (ea : a' = upd a12 x.toNatClampNeg v) (hx : x = nI c) (hc : zq_bl c 75 = true) (h7 : Nat.beq (Nat.mod c 15) 14 = true) (hw : zq_bl w 64 = true) (hv : v = nI w) (hm : m' = zq_wr m (Nat.add 54 (Nat.div c 15)) (Nat.add (Nat.mul (Nat.div (zq_rd m (Nat.add 54 (Nat.div c 15))) 64) 64) w)) : zq_R pl sg m' (f1, f2, f3, f4, a1, a2, a3, a4, a5, a6, a7, a8, a9, a10, a11, a', a13, a14, a15, a16, a17) := by
  obtain ⟨r1, r2, r3, r4, r5, r6, r7, r8, r9, r10, r11, r12, r13, r14, r15, r16, r17, r18, r19, r20, r21⟩ := hR
  have q := zq_bl_s hc
  have hq : Nat.add 54 (Nat.div c 15) = 54 + c / 15 := rfl
  have q2 : c / 15 < 5 := by omega
  exact ⟨(r1.trans (congrArg nI (zq_rw_n hm (by omega)).symm)), (r2.trans (congrArg nI (zq_rw_n hm (by omega)).symm)), (r3.trans (congrArg nI (zq_rw_n hm (by omega)).symm)), (r4.trans (congrArg nI (zq_rw_n hm (by omega)).symm)), (zq_S_k r5 hm (by omega)), (zq_S_k r6 hm (by omega)), (zq_S_k r7 hm (by omega)), (zq_S_k r8 hm (by omega)), (zq_S_k r9 hm (by omega)), (zq_S_k r10 hm (by omega)), (zq_S_k r11 hm (by omega)), (zq_S_k r12 hm (by omega)), (zq_S_k r13 hm (by omega)), (zq_L_k r14 hm (by omega)), (zq_S_k r15 hm (by omega)), (zq_A_u r16 ea hx hc h7 hw hv hm), (zq_A_k r17 hm (by omega)), (zq_S_k r18 hm (by omega)), (zq_S_k r19 hm (by omega)), (zq_Q_k r20 hm (by omega)), (zq_M_k r21 hm (by omega))⟩
theorem zq_st12m {pl sg : Nat → Nat → Int32} {m : Nat} {f1 f2 f3 f4 : Int32} {a1 a2 a3 a4 a5 a6 a7 a8 a9 a10 a11 a12 a13 a14 a15 a16 a17 : Nat → Int32} {c w : Nat} {x v : Int32} {k : Nat → Bool} {P : (Nat → Int32) → Prop} (hR : zq_R pl sg m (f1, f2, f3, f4, a1, a2, a3, a4, a5, a6, a7, a8, a9, a10, a11, a12, a13, a14, a15, a16, a17)) (hx : x = nI c) (hv : v = nI w) (h7 : Nat.beq (Nat.mod c 15) 14 = true) (hw : zq_bl w 64 = true) (h : zq_bc (zq_bl c 75) (zq_fo (zq_wr m (Nat.add 54 (Nat.div c 15)) (Nat.add (Nat.mul (Nat.div (zq_rd m (Nat.add 54 (Nat.div c 15))) 64) 64) w)) k) false = true) (hp : ∀ (a' : Nat → Int32) (m' : Nat), zq_R pl sg m' (f1, f2, f3, f4, a1, a2, a3, a4, a5, a6, a7, a8, a9, a10, a11, a', a13, a14, a15, a16, a17) → k m' = true → P a') : vp_in x 75 ∧ ∀ a', a' = upd a12 x.toNatClampNeg v → P a' := by
  refine zq_vi hx h (fun hc h => ?_)
  intro a' ea
  obtain ⟨m2, hm, h⟩ := zq_fo_e h
  exact hp a' m2 (zq_w12m hR ea hx hc h7 hw hv hm) h
theorem zq_w13m {pl sg : Nat → Nat → Int32} {m : Nat} {f1 f2 f3 f4 : Int32} {a1 a2 a3 a4 a5 a6 a7 a8 a9 a10 a11 a12 a13 a14 a15 a16 a17 : Nat → Int32} {m' c w : Nat} {x v : Int32} {a' : Nat → Int32} (hR : zq_R pl sg m (f1, f2, f3, f4, a1, a2, a3, a4, a5, a6, a7, a8, a9, a10, a11, a12, a13, a14, a15, a16, a17)) (ea : a' = upd a13 x.toNatClampNeg v) (hx : x = nI c) (hc : zq_bl c 75 = true) (h7 : Nat.beq (Nat.mod c 15) 14 = true) (hw : zq_bl w 64 = true) (hv : v = nI w) (hm : m' = zq_wr m (Nat.add 59 (Nat.div c 15)) (Nat.add (Nat.mul (Nat.div (zq_rd m (Nat.add 59 (Nat.div c 15))) 64) 64) w)) : zq_R pl sg m' (f1, f2, f3, f4, a1, a2, a3, a4, a5, a6, a7, a8, a9, a10, a11, a12, a', a14, a15, a16, a17) := by
  obtain ⟨r1, r2, r3, r4, r5, r6, r7, r8, r9, r10, r11, r12, r13, r14, r15, r16, r17, r18, r19, r20, r21⟩ := hR
  have q := zq_bl_s hc
  have hq : Nat.add 59 (Nat.div c 15) = 59 + c / 15 := rfl
  have q2 : c / 15 < 5 := by omega
  exact ⟨(r1.trans (congrArg nI (zq_rw_n hm (by omega)).symm)), (r2.trans (congrArg nI (zq_rw_n hm (by omega)).symm)), (r3.trans (congrArg nI (zq_rw_n hm (by omega)).symm)), (r4.trans (congrArg nI (zq_rw_n hm (by omega)).symm)), (zq_S_k r5 hm (by omega)), (zq_S_k r6 hm (by omega)), (zq_S_k r7 hm (by omega)), (zq_S_k r8 hm (by omega)), (zq_S_k r9 hm (by omega)), (zq_S_k r10 hm (by omega)), (zq_S_k r11 hm (by omega)), (zq_S_k r12 hm (by omega)), (zq_S_k r13 hm (by omega)), (zq_L_k r14 hm (by omega)), (zq_S_k r15 hm (by omega)), (zq_A_k r16 hm (by omega)), (zq_A_u r17 ea hx hc h7 hw hv hm), (zq_S_k r18 hm (by omega)), (zq_S_k r19 hm (by omega)), (zq_Q_k r20 hm (by omega)), (zq_M_k r21 hm (by omega))⟩
theorem zq_st13m {pl sg : Nat → Nat → Int32} {m : Nat} {f1 f2 f3 f4 : Int32} {a1 a2 a3 a4 a5 a6 a7 a8 a9 a10 a11 a12 a13 a14 a15 a16 a17 : Nat → Int32} {c w : Nat} {x v : Int32} {k : Nat → Bool} {P : (Nat → Int32) → Prop} (hR : zq_R pl sg m (f1, f2, f3, f4, a1, a2, a3, a4, a5, a6, a7, a8, a9, a10, a11, a12, a13, a14, a15, a16, a17)) (hx : x = nI c) (hv : v = nI w) (h7 : Nat.beq (Nat.mod c 15) 14 = true) (hw : zq_bl w 64 = true) (h : zq_bc (zq_bl c 75) (zq_fo (zq_wr m (Nat.add 59 (Nat.div c 15)) (Nat.add (Nat.mul (Nat.div (zq_rd m (Nat.add 59 (Nat.div c 15))) 64) 64) w)) k) false = true) (hp : ∀ (a' : Nat → Int32) (m' : Nat), zq_R pl sg m' (f1, f2, f3, f4, a1, a2, a3, a4, a5, a6, a7, a8, a9, a10, a11, a12, a', a14, a15, a16, a17) → k m' = true → P a') : vp_in x 75 ∧ ∀ a', a' = upd a13 x.toNatClampNeg v → P a' := by
  refine zq_vi hx h (fun hc h => ?_)
  intro a' ea
  obtain ⟨m2, hm, h⟩ := zq_fo_e h
  exact hp a' m2 (zq_w13m hR ea hx hc h7 hw hv hm) h
theorem zq_Q_u {pl : Nat → Nat → Int32} {m m' c w : Nat} {a a' : Nat → Int32} {x v : Int32} (h : zq_Q pl m a) (ea : a' = upd a x.toNatClampNeg v) (hx : x = nI c) (hc : zq_bl c 1024 = true) (h7 : zq_bl (Nat.mod c 16) 8 = true) (hv : v = nI w) (hm : m' = zq_wr m (Nat.add 203 (Nat.add (Nat.mul 9 (Nat.div c 16)) (Nat.mod c 16))) w) : zq_Q pl m' a' := by
  intro s d hs hd
  rw [ea, zq_cl hx (zq_bl_s hc) (by decide)]
  have h7 : c % 16 < 8 := zq_bl_s h7
  have hc := zq_bl_s hc
  have hm2 : m' = zq_wr m (203 + (9 * (c / 16) + c % 16)) w := hm
  by_cases e : 16 * s + d = c
  · have es : s = c / 16 := by omega
    have ed : d = c % 16 := by omega
    rw [e, pk_us]
    unfold zq_qc
    rw [if_pos (by omega)]
    have e2 : 203 + 9 * s + d = 203 + (9 * (c / 16) + c % 16) := by omega
    rw [e2, zq_rw_e hm2, hv, zq_mod]
  · rw [pk_un e, h s d hs hd]
    unfold zq_qc
    by_cases h8 : d < 8
    · rw [if_pos h8, if_pos h8, zq_rw_n hm2 (j := 203 + 9 * s + d) (by omega)]
    · rw [if_neg h8, if_neg h8, zq_rw_n hm2 (j := 203 + 9 * s + 8) (by omega)]
theorem zq_w16 {pl sg : Nat → Nat → Int32} {m : Nat} {f1 f2 f3 f4 : Int32} {a1 a2 a3 a4 a5 a6 a7 a8 a9 a10 a11 a12 a13 a14 a15 a16 a17 : Nat → Int32} {m' c w : Nat} {x v : Int32} {a' : Nat → Int32} (hR : zq_R pl sg m (f1, f2, f3, f4, a1, a2, a3, a4, a5, a6, a7, a8, a9, a10, a11, a12, a13, a14, a15, a16, a17)) (ea : a' = upd a16 x.toNatClampNeg v) (hx : x = nI c) (hc : zq_bl c 1024 = true) (h7 : zq_bl (Nat.mod c 16) 8 = true) (hv : v = nI w) (hm : m' = zq_wr m (Nat.add 203 (Nat.add (Nat.mul 9 (Nat.div c 16)) (Nat.mod c 16))) w) : zq_R pl sg m' (f1, f2, f3, f4, a1, a2, a3, a4, a5, a6, a7, a8, a9, a10, a11, a12, a13, a14, a15, a', a17) := by
  obtain ⟨r1, r2, r3, r4, r5, r6, r7, r8, r9, r10, r11, r12, r13, r14, r15, r16, r17, r18, r19, r20, r21⟩ := hR
  have hq : (Nat.add 203 (Nat.add (Nat.mul 9 (Nat.div c 16)) (Nat.mod c 16))) = 203 + (9 * (c / 16) + c % 16) := rfl
  exact ⟨(r1.trans (congrArg nI (zq_rw_n hm (by omega)).symm)), (r2.trans (congrArg nI (zq_rw_n hm (by omega)).symm)), (r3.trans (congrArg nI (zq_rw_n hm (by omega)).symm)), (r4.trans (congrArg nI (zq_rw_n hm (by omega)).symm)), (zq_S_k r5 hm (by omega)), (zq_S_k r6 hm (by omega)), (zq_S_k r7 hm (by omega)), (zq_S_k r8 hm (by omega)), (zq_S_k r9 hm (by omega)), (zq_S_k r10 hm (by omega)), (zq_S_k r11 hm (by omega)), (zq_S_k r12 hm (by omega)), (zq_S_k r13 hm (by omega)), (zq_L_k r14 hm (by omega)), (zq_S_k r15 hm (by omega)), (zq_A_k r16 hm (by omega)), (zq_A_k r17 hm (by omega)), (zq_S_k r18 hm (by omega)), (zq_S_k r19 hm (by omega)), (zq_Q_u r20 ea hx hc h7 hv hm), (zq_M_k r21 hm (by omega))⟩
theorem zq_st16 {pl sg : Nat → Nat → Int32} {m : Nat} {f1 f2 f3 f4 : Int32} {a1 a2 a3 a4 a5 a6 a7 a8 a9 a10 a11 a12 a13 a14 a15 a16 a17 : Nat → Int32} {c w : Nat} {x v : Int32} {k : Nat → Bool} {P : (Nat → Int32) → Prop} (hR : zq_R pl sg m (f1, f2, f3, f4, a1, a2, a3, a4, a5, a6, a7, a8, a9, a10, a11, a12, a13, a14, a15, a16, a17)) (hx : x = nI c) (hv : v = nI w) (h7 : zq_bl (Nat.mod c 16) 8 = true) (h : zq_bc (zq_bl c 1024) (zq_fo (zq_wr m (Nat.add 203 (Nat.add (Nat.mul 9 (Nat.div c 16)) (Nat.mod c 16))) w) k) false = true) (hp : ∀ (a' : Nat → Int32) (m' : Nat), zq_R pl sg m' (f1, f2, f3, f4, a1, a2, a3, a4, a5, a6, a7, a8, a9, a10, a11, a12, a13, a14, a15, a', a17) → k m' = true → P a') : vp_in x 1024 ∧ ∀ a', a' = upd a16 x.toNatClampNeg v → P a' := by
  refine zq_vi hx h (fun hc h => ?_)
  intro a' ea
  obtain ⟨m2, hm, h⟩ := zq_fo_e h
  exact hp a' m2 (zq_w16 hR ea hx hc h7 hv hm) h
theorem zq_x10 {pl sg : Nat → Nat → Int32} {m : Nat} {f1 f2 f3 f4 : Int32} {a1 a2 a3 a4 a5 a6 a7 a8 a9 a10 a11 a12 a13 a14 a15 a16 a17 : Nat → Int32} {m' p v : Nat} {a' : Nat → Int32} (hR : zq_R pl sg m (f1, f2, f3, f4, a1, a2, a3, a4, a5, a6, a7, a8, a9, a10, a11, a12, a13, a14, a15, a16, a17)) (hm : m' = zq_wr m p v) (h0 : 123 ≤ p) (h9 : p < 203) (hA : zq_L pl m' a') : zq_R pl sg m' (f1, f2, f3, f4, a1, a2, a3, a4, a5, a6, a7, a8, a9, a', a11, a12, a13, a14, a15, a16, a17) := by
  obtain ⟨r1, r2, r3, r4, r5, r6, r7, r8, r9, r10, r11, r12, r13, r14, r15, r16, r17, r18, r19, r20, r21⟩ := hR
  exact ⟨(r1.trans (congrArg nI (zq_rw_n hm (by omega)).symm)), (r2.trans (congrArg nI (zq_rw_n hm (by omega)).symm)), (r3.trans (congrArg nI (zq_rw_n hm (by omega)).symm)), (r4.trans (congrArg nI (zq_rw_n hm (by omega)).symm)), (zq_S_k r5 hm (by omega)), (zq_S_k r6 hm (by omega)), (zq_S_k r7 hm (by omega)), (zq_S_k r8 hm (by omega)), (zq_S_k r9 hm (by omega)), (zq_S_k r10 hm (by omega)), (zq_S_k r11 hm (by omega)), (zq_S_k r12 hm (by omega)), (zq_S_k r13 hm (by omega)), hA, (zq_S_k r15 hm (by omega)), (zq_A_k r16 hm (by omega)), (zq_A_k r17 hm (by omega)), (zq_S_k r18 hm (by omega)), (zq_S_k r19 hm (by omega)), (zq_Q_k r20 hm (by omega)), (zq_M_k r21 hm (by omega))⟩
theorem zq_x12 {pl sg : Nat → Nat → Int32} {m : Nat} {f1 f2 f3 f4 : Int32} {a1 a2 a3 a4 a5 a6 a7 a8 a9 a10 a11 a12 a13 a14 a15 a16 a17 : Nat → Int32} {m' p v : Nat} {a' : Nat → Int32} (hR : zq_R pl sg m (f1, f2, f3, f4, a1, a2, a3, a4, a5, a6, a7, a8, a9, a10, a11, a12, a13, a14, a15, a16, a17)) (hm : m' = zq_wr m p v) (h0 : 54 ≤ p) (h9 : p < 59) (hA : zq_A sg m' 54 a') : zq_R pl sg m' (f1, f2, f3, f4, a1, a2, a3, a4, a5, a6, a7, a8, a9, a10, a11, a', a13, a14, a15, a16, a17) := by
  obtain ⟨r1, r2, r3, r4, r5, r6, r7, r8, r9, r10, r11, r12, r13, r14, r15, r16, r17, r18, r19, r20, r21⟩ := hR
  exact ⟨(r1.trans (congrArg nI (zq_rw_n hm (by omega)).symm)), (r2.trans (congrArg nI (zq_rw_n hm (by omega)).symm)), (r3.trans (congrArg nI (zq_rw_n hm (by omega)).symm)), (r4.trans (congrArg nI (zq_rw_n hm (by omega)).symm)), (zq_S_k r5 hm (by omega)), (zq_S_k r6 hm (by omega)), (zq_S_k r7 hm (by omega)), (zq_S_k r8 hm (by omega)), (zq_S_k r9 hm (by omega)), (zq_S_k r10 hm (by omega)), (zq_S_k r11 hm (by omega)), (zq_S_k r12 hm (by omega)), (zq_S_k r13 hm (by omega)), (zq_L_k r14 hm (by omega)), (zq_S_k r15 hm (by omega)), hA, (zq_A_k r17 hm (by omega)), (zq_S_k r18 hm (by omega)), (zq_S_k r19 hm (by omega)), (zq_Q_k r20 hm (by omega)), (zq_M_k r21 hm (by omega))⟩
theorem zq_x13 {pl sg : Nat → Nat → Int32} {m : Nat} {f1 f2 f3 f4 : Int32} {a1 a2 a3 a4 a5 a6 a7 a8 a9 a10 a11 a12 a13 a14 a15 a16 a17 : Nat → Int32} {m' p v : Nat} {a' : Nat → Int32} (hR : zq_R pl sg m (f1, f2, f3, f4, a1, a2, a3, a4, a5, a6, a7, a8, a9, a10, a11, a12, a13, a14, a15, a16, a17)) (hm : m' = zq_wr m p v) (h0 : 59 ≤ p) (h9 : p < 64) (hA : zq_A sg m' 59 a') : zq_R pl sg m' (f1, f2, f3, f4, a1, a2, a3, a4, a5, a6, a7, a8, a9, a10, a11, a12, a', a14, a15, a16, a17) := by
  obtain ⟨r1, r2, r3, r4, r5, r6, r7, r8, r9, r10, r11, r12, r13, r14, r15, r16, r17, r18, r19, r20, r21⟩ := hR
  exact ⟨(r1.trans (congrArg nI (zq_rw_n hm (by omega)).symm)), (r2.trans (congrArg nI (zq_rw_n hm (by omega)).symm)), (r3.trans (congrArg nI (zq_rw_n hm (by omega)).symm)), (r4.trans (congrArg nI (zq_rw_n hm (by omega)).symm)), (zq_S_k r5 hm (by omega)), (zq_S_k r6 hm (by omega)), (zq_S_k r7 hm (by omega)), (zq_S_k r8 hm (by omega)), (zq_S_k r9 hm (by omega)), (zq_S_k r10 hm (by omega)), (zq_S_k r11 hm (by omega)), (zq_S_k r12 hm (by omega)), (zq_S_k r13 hm (by omega)), (zq_L_k r14 hm (by omega)), (zq_S_k r15 hm (by omega)), (zq_A_k r16 hm (by omega)), hA, (zq_S_k r18 hm (by omega)), (zq_S_k r19 hm (by omega)), (zq_Q_k r20 hm (by omega)), (zq_M_k r21 hm (by omega))⟩
theorem zq_x16 {pl sg : Nat → Nat → Int32} {m : Nat} {f1 f2 f3 f4 : Int32} {a1 a2 a3 a4 a5 a6 a7 a8 a9 a10 a11 a12 a13 a14 a15 a16 a17 : Nat → Int32} {m' p v : Nat} {a' : Nat → Int32} (hR : zq_R pl sg m (f1, f2, f3, f4, a1, a2, a3, a4, a5, a6, a7, a8, a9, a10, a11, a12, a13, a14, a15, a16, a17)) (hm : m' = zq_wr m p v) (h0 : 203 ≤ p) (h9 : p < 779) (hA : zq_Q pl m' a') : zq_R pl sg m' (f1, f2, f3, f4, a1, a2, a3, a4, a5, a6, a7, a8, a9, a10, a11, a12, a13, a14, a15, a', a17) := by
  obtain ⟨r1, r2, r3, r4, r5, r6, r7, r8, r9, r10, r11, r12, r13, r14, r15, r16, r17, r18, r19, r20, r21⟩ := hR
  exact ⟨(r1.trans (congrArg nI (zq_rw_n hm (by omega)).symm)), (r2.trans (congrArg nI (zq_rw_n hm (by omega)).symm)), (r3.trans (congrArg nI (zq_rw_n hm (by omega)).symm)), (r4.trans (congrArg nI (zq_rw_n hm (by omega)).symm)), (zq_S_k r5 hm (by omega)), (zq_S_k r6 hm (by omega)), (zq_S_k r7 hm (by omega)), (zq_S_k r8 hm (by omega)), (zq_S_k r9 hm (by omega)), (zq_S_k r10 hm (by omega)), (zq_S_k r11 hm (by omega)), (zq_S_k r12 hm (by omega)), (zq_S_k r13 hm (by omega)), (zq_L_k r14 hm (by omega)), (zq_S_k r15 hm (by omega)), (zq_A_k r16 hm (by omega)), (zq_A_k r17 hm (by omega)), (zq_S_k r18 hm (by omega)), (zq_S_k r19 hm (by omega)), hA, (zq_M_k r21 hm (by omega))⟩
end
section
/-! what is known of the payloads (pl) and of the applied states (sg) -/
def zq_H (pl sg : Nat → Nat → Int32) : Prop :=
  (∀ j, pl 3 j = if j = 1 then 3 else 0) ∧
  (∀ n j, n < 5 → pl (16 + n) j = if j = 1 then 5 else if j = 3 then nI n else 0) ∧
  (∀ j, sg 0 j = 0) ∧
  (∃ kd s y : Nat, kd < 3 ∧ s < 4 ∧ y < 6 ∧ pl 1 1 = nI kd ∧ pl 1 2 = nI s ∧ pl 1 3 = nI y ∧
    ∀ j, j < 14 → sg 1 j = if j = 10 + s then 0 else if j = 6 + s then pl 1 4 else if j = y then (if kd = 0 then pl 1 5 else if kd = 1 then 0 + pl 1 5 else if (0 : Int32) = pl 1 5 then pl 1 6 else 0) else 0) ∧
  pl 2 1 = 1 ∧
  (∀ j, pl 4 j = if j < 4 then pl 1 j else 0) ∧ (∀ j, pl 5 j = if j < 4 then pl 2 j else 0) ∧ (∀ j, pl 0 j = 0)
theorem zq_H3 {pl sg : Nat → Nat → Int32} (H : zq_H pl sg) : ∀ j, pl 3 j = if j = 1 then 3 else 0 := H.1
theorem zq_H16 {pl sg : Nat → Nat → Int32} (H : zq_H pl sg) : ∀ n j, n < 5 → pl (16 + n) j = if j = 1 then 5 else if j = 3 then nI n else 0 := H.2.1
theorem zq_Hk {pl sg : Nat → Nat → Int32} (H : zq_H pl sg) {i : Nat} (h1 : 1 ≤ i) (h3 : i ≤ 3) : ¬ pl i 1 = 4 ∧ ¬ pl i 1 = 5 := by
  have hi : i = 1 ∨ i = 2 ∨ i = 3 := by omega
  rcases hi with e | e | e
  · subst e
    obtain ⟨kd, s, y, hk, _, _, e1, _⟩ := H.2.2.2.1
    rw [e1]
    have hk : kd = 0 ∨ kd = 1 ∨ kd = 2 := by omega
    rcases hk with e | e | e <;> subst e <;> exact ⟨by decide, by decide⟩
  · subst e
    rw [H.2.2.2.2.1]
    exact ⟨by decide, by decide⟩
  · subst e
    rw [H.1 1]
    exact ⟨by decide, by decide⟩
noncomputable def ez_lastOf (k : Nat → Bool) (c_p0 : Nat) (m : Nat) : Bool := zq_bc (zq_bl c_p0 5) (zq_bc (zq_bl c_p0 5) (zq_fo (zq_ad (zq_rd m (Nat.add 34 c_p0)) (zq_rd m (Nat.add 44 c_p0))) (fun c3 => k c3)) false) false
theorem sz_lastOf {pl sg : Nat → Nat → Int32} (H : zq_H pl sg) {post : Int32 → Prop} {k : Nat → Bool} (hk : ∀ (x : Int32) (c : Nat), x = nI c → k c = true → post x) {p0 : Int32} {c_p0 : Nat} (h_p0 : p0 = nI c_p0) {u : St2} {m : Nat} (hR : zq_R pl sg m u) (h : ez_lastOf k c_p0 m = true) : wpX_lastOf post u p0 := by
  obtain ⟨f0_first, f0_waiting, f0_holder, f0_wrong, a1, a2, a3, a4, a5, a6, a7, a8, a9, a10, a11, a12, a13, a14, a15, a16, a17⟩ := u
  unfold wpX_lastOf
  unfold ez_lastOf at h
  refine zq_vi h_p0 h (fun q1 h => ?_)
  refine zq_vi h_p0 h (fun q2 h => ?_)
  obtain ⟨c3, ec3, h⟩ := zq_fo_e h
  have hf4 := zq_tr (zq_xad (zq_g7 hR h_p0 q2) (zq_g9 hR h_p0 q2)) ec3
  exact hk _ _ hf4 h
noncomputable def ez_cellOf (k : Nat → Bool) (c_p0 : Nat) (c_p1 : Nat) (m : Nat) : Bool := zq_bc (zq_bl c_p0 5) (zq_fo (zq_ml 7 (zq_sb (zq_sb (zq_ad (zq_ml 16 c_p0) c_p1) (zq_rd m (Nat.add 34 c_p0))) 1)) (fun c2 => k c2)) false
theorem sz_cellOf {pl sg : Nat → Nat → Int32} (H : zq_H pl sg) {post : Int32 → Prop} {k : Nat → Bool} (hk : ∀ (x : Int32) (c : Nat), x = nI c → k c = true → post x) {p0 : Int32} {c_p0 : Nat} (h_p0 : p0 = nI c_p0) {p1 : Int32} {c_p1 : Nat} (h_p1 : p1 = nI c_p1) {u : St2} {m : Nat} (hR : zq_R pl sg m u) (h : ez_cellOf k c_p0 c_p1 m = true) : wpX_cellOf post u p0 p1 := by
  obtain ⟨f0_first, f0_waiting, f0_holder, f0_wrong, a1, a2, a3, a4, a5, a6, a7, a8, a9, a10, a11, a12, a13, a14, a15, a16, a17⟩ := u
  unfold wpX_cellOf
  unfold ez_cellOf at h
  refine zq_vi h_p0 h (fun q1 h => ?_)
  obtain ⟨c2, ec2, h⟩ := zq_fo_e h
  have hf3 := zq_tr (zq_xml (rfl : (7 : Int32) = nI 7) (zq_xsb (zq_xsb (zq_xad (zq_xml (rfl : (16 : Int32) = nI 16) h_p0) h_p1) (zq_g7 hR h_p0 q1)) (rfl : (1 : Int32) = nI 1))) ec2
  exact hk _ _ hf3 h
/-- the cells of a log entry -/
theorem zq_lcl {r : Int32} {c : Nat} (hr : r = nI c) (hc : c < 554) (j : Nat) (hj : j < 7) : (r + nI j).toNatClampNeg = c + j ∧ vp_in (r + nI j) 560 := by
  rw [hr, nI_add]
  exact ⟨nI_clamp (by omega), vp_in_nI (by omega) (by decide)⟩
theorem zq_lcp {pl : Nat → Nat → Int32} {m : Nat} {a : Nat → Int32} {c j i : Nat} (h : zq_L pl m a) (hc : c < 554) (h7 : c % 7 = 0) (hj : j < 7) (h0 : j ≠ 0) (hi : i = zq_rd m (123 + c / 7) / 65536) : a (c + j) = pl i j := by
  have e := h (c / 7) j (by omega) hj
  have e2 : 7 * (c / 7) + j = c + j := by omega
  rw [e2] at e
  rw [e, hi]
  unfold zq_ec
  rw [if_neg h0]
noncomputable def ez_changedBy (k : Nat → Bool) (c_p0 : Nat) (c_p1 : Nat) (c_p2 : Nat) (m : Nat) : Bool :=
  ez_cellOf (fun r => zq_bc (zq_bl r 554) (zq_bc (Nat.beq (Nat.mod r 7) 0) (zq_fo (Nat.div (zq_rd m (Nat.add 123 (Nat.div r 7))) 65536) (fun i =>
    zq_bc (Nat.ble i 3) (zq_bc (Nat.ble 1 i) (k c_p2) false)
      (zq_bc (Nat.ble 16 i) (zq_bc (zq_bl (Nat.sub i 16) 5) (zq_fo (Nat.land c_p2 (Nat.xor (zq_sh (Nat.sub i 16)) 4294967295)) (fun c => k c)) false) false))) false) false) c_p0 c_p1 m
theorem sz_changedBy {pl sg : Nat → Nat → Int32} (H : zq_H pl sg) {post : Int32 → Prop} {k : Nat → Bool} (hk : ∀ (x : Int32) (c : Nat), x = nI c → k c = true → post x) {p0 : Int32} {c_p0 : Nat} (h_p0 : p0 = nI c_p0) {p1 : Int32} {c_p1 : Nat} (h_p1 : p1 = nI c_p1) {p2 : Int32} {c_p2 : Nat} (h_p2 : p2 = nI c_p2) {u : St2} {m : Nat} (hR : zq_R pl sg m u) (h : ez_changedBy k c_p0 c_p1 c_p2 m = true) : wpX_changedBy post u p0 p1 p2 := by
  obtain ⟨f0_first, f0_waiting, f0_holder, f0_wrong, a1, a2, a3, a4, a5, a6, a7, a8, a9, a10, a11, a12, a13, a14, a15, a16, a17⟩ := u
  unfold wpX_changedBy
  unfold ez_changedBy at h
  refine sz_cellOf H ?_ h_p0 h_p1 hR h
  intro r c hr h
  obtain ⟨q1, h⟩ := zq_bc_s h
  obtain ⟨q2, h⟩ := zq_bc_s h
  obtain ⟨i, ei, h⟩ := zq_fo_e h
  have q1 := zq_bl_s q1
  have q2 : c % 7 = 0 := zq_beq_s q2
  have ei : i = zq_rd m (123 + c / 7) / 65536 := ei
  have V1 := (zq_lcl hr q1 1 (by decide)).2
  have V3 := (zq_lcl hr q1 3 (by decide)).2
  have A1 : a10 (r + 1).toNatClampNeg = pl i 1 := by
    have e : (r + 1).toNatClampNeg = c + 1 := (zq_lcl hr q1 1 (by decide)).1
    rw [e]
    exact zq_lcp (zq_p10 hR) q1 q2 (by decide) (by decide) ei
  have A3 : a10 (r + 3).toNatClampNeg = pl i 3 := by
    have e : (r + 3).toNatClampNeg = c + 3 := (zq_lcl hr q1 3 (by decide)).1
    rw [e]
    exact zq_lcp (zq_p10 hR) q1 q2 (by decide) (by decide) ei
  refine ⟨V1, ?_⟩
  rw [A1, A3]
  rcases zq_bc_b h with ⟨q3, h⟩ | ⟨q3, h⟩
  · obtain ⟨q4, h⟩ := zq_bc_s h
    have n := zq_Hk H (zq_ble_s q4) (zq_ble_s q3)
    exact br_f n.1 ⟨V1, br_f n.2 (hk _ _ h_p2 h)⟩
  · obtain ⟨q4, h⟩ := zq_bc_s h
    obtain ⟨q5, h⟩ := zq_bc_s h
    obtain ⟨w, ew, h⟩ := zq_fo_e h
    have q4 := zq_ble_s q4
    have q5 : i - 16 < 5 := zq_bl_s q5
    have ei2 : i = 16 + (i - 16) := by omega
    have p1e : pl i 1 = 5 := by
      rw [ei2]
      exact zq_H16 H (i - 16) 1 q5
    have p3e : pl i 3 = nI (i - 16) := by
      have e := zq_H16 H (i - 16) 3 q5
      rw [← ei2] at e
      exact e
    rw [p1e, p3e]
    refine br_f (by decide) ⟨V1, br_t rfl ⟨V3, ?_⟩⟩
    exact hk _ _ (zq_tr (zq_xand h_p2 (zq_xxor (zq_xsh rfl) zq_m1)) ew) h
noncomputable def ez_membersFor_22_b (k : Nat → Bool) (ih : Nat → Nat → Nat → Bool) (c_x1 : Nat) (c_x2 : Nat) (c_x3 : Nat) (m : Nat) : Bool := ez_lastOf (fun c1 => zq_bc (zq_lt c1 c_x3) (k c_x2) (ez_changedBy (fun c2 => zq_fo (zq_ad c_x3 1) (fun c3 => ih c2 c3 m)) c_x1 c_x3 c_x2 m)) c_x1 m
noncomputable def ez_membersFor_22 (k : Nat → Bool) (c_x1 : Nat) (n : Nat) : Nat → Nat → Nat → Bool := Nat.rec (motive := fun _ => Nat → Nat → Nat → Bool) (fun _ _ _ => false) (fun _ ih => ez_membersFor_22_b k ih c_x1) n
theorem sz_membersFor_22 {pl sg : Nat → Nat → Int32} (H : zq_H pl sg) {post : Int32 → Prop} {k : Nat → Bool} (hk : ∀ (x : Int32) (c : Nat), x = nI c → k c = true → post x) {f0_first : Int32} {f0_waiting : Int32} {f0_holder : Int32} {f0_wrong : Int32} {a1 : Nat → Int32} {a2 : Nat → Int32} {a3 : Nat → Int32} {a4 : Nat → Int32} {a5 : Nat → Int32} {a6 : Nat → Int32} {a7 : Nat → Int32} {a8 : Nat → Int32} {a9 : Nat → Int32} {a10 : Nat → Int32} {a11 : Nat → Int32} {a12 : Nat → Int32} {a13 : Nat → Int32} {a14 : Nat → Int32} {a15 : Nat → Int32} {a16 : Nat → Int32} {a17 : Nat → Int32} {x1 : Int32} {c_x1 : Nat} (h_x1 : x1 = nI c_x1) : ∀ (n : Nat) (x2 : Int32) (c_x2 : Nat) (x3 : Int32) (c_x3 : Nat) (m : Nat), x2 = nI c_x2 → x3 = nI c_x3 → zq_R pl sg m (f0_first, f0_waiting, f0_holder, f0_wrong, a1, a2, a3, a4, a5, a6, a7, a8, a9, a10, a11, a12, a13, a14, a15, a16, a17) → ez_membersFor_22 k c_x1 n c_x2 c_x3 m = true → wX_membersFor_22 post x1 f0_first f0_waiting f0_holder f0_wrong a1 a2 a3 a4 a5 a6 a7 a8 a9 a10 a11 a12 a13 a14 a15 a16 a17 n x2 x3 := by
  intro n
  induction n with
  | zero =>
    intro x2 c_x2 x3 c_x3 m h_x2 h_x3 hR h
    exact zq_ff h
  | succ n ih =>
    intro x2 c_x2 x3 c_x3 m h_x2 h_x3 hR h
    have h : ez_membersFor_22_b k (ez_membersFor_22 k c_x1 n) c_x1 c_x2 c_x3 m = true := h
    unfold ez_membersFor_22_b at h
    unfold wX_membersFor_22
    refine sz_lastOf H ?_ h_x1 hR h
    intro r_5 c1 hc1 h
    refine zq_br (zq_clt hc1 h_x3) h (fun h => ?_) (fun h => ?_)
    · exact hk _ _ h_x2 h
    · refine sz_changedBy H ?_ h_x1 h_x3 h_x2 hR h
      intro r_7 c2 hc2 h
      refine zq_le_t h (zq_xad h_x3 (rfl : (1 : Int32) = nI 1)) (fun x3_8 c3 hc3 h => ?_)
      exact ih _ _ _ _ _ hc2 hc3 hR h
noncomputable def ez_membersFor (k : Nat → Bool) (c_p0 : Nat) (m : Nat) : Bool := zq_fo (zq_ad (zq_ml 15 c_p0) 14) (fun c1 => zq_bc (zq_bl c1 75) (zq_bc (Nat.beq (Nat.mod c1 15) 14) (zq_fo (Nat.mod (zq_rd m (Nat.add 54 (Nat.div c1 15))) 64) (fun c6 => zq_bc (zq_bl c_p0 5) (zq_fo (zq_ad (zq_rd m (Nat.add 49 c_p0)) 1) (fun c8 => ez_membersFor_22 k c_p0 300 c6 c8 m)) false)) false) false)
theorem sz_membersFor {pl sg : Nat → Nat → Int32} (H : zq_H pl sg) {post : Int32 → Prop} {k : Nat → Bool} (hk : ∀ (x : Int32) (c : Nat), x = nI c → k c = true → post x) {p0 : Int32} {c_p0 : Nat} (h_p0 : p0 = nI c_p0) {u : St2} {m : Nat} (hR : zq_R pl sg m u) (h : ez_membersFor k c_p0 m = true) : wpX_membersFor post u p0 := by
  obtain ⟨f0_first, f0_waiting, f0_holder, f0_wrong, a1, a2, a3, a4, a5, a6, a7, a8, a9, a10, a11, a12, a13, a14, a15, a16, a17⟩ := u
  unfold wpX_membersFor
  unfold ez_membersFor at h
  obtain ⟨c1, ec1, h⟩ := zq_fo_e h
  have hf2 := zq_tr (zq_xad (zq_xml (rfl : (15 : Int32) = nI 15) h_p0) (rfl : (14 : Int32) = nI 14)) ec1
  refine zq_vi hf2 h (fun q3 h => ?_)
  have hf4 := zq_tr (zq_xad (zq_xml (rfl : (15 : Int32) = nI 15) h_p0) (rfl : (14 : Int32) = nI 14)) ec1
  obtain ⟨q5, h⟩ := zq_bc_s h
  refine zq_le_t h (zq_g12m hR hf4 q3 q5) (fun x2_2 c6 hc6 h => ?_)
  refine zq_vi h_p0 h (fun q7 h => ?_)
  refine zq_le_t h (zq_xad (zq_g11 hR h_p0 q7) (rfl : (1 : Int32) = nI 1)) (fun x3_4 c8 hc8 h => ?_)
  exact ⟨300, sz_membersFor_22 H hk h_p0 300 _ _ _ _ _ hc6 hc8 hR h⟩
noncomputable def ez_areJoined (k : Nat → Bool) (c_p0 : Nat) (c_p1 : Nat) (m : Nat) : Bool := zq_bc (zq_bl c_p0 5) (zq_bc (zq_eq (zq_rd m (Nat.add 4 c_p0)) 0) (k 0) (zq_bc (zq_bl c_p1 5) (zq_bc (zq_eq (zq_rd m (Nat.add 4 c_p1)) 0) (k 0) (zq_bc (zq_bl c_p0 5) (zq_bc (zq_bl c_p1 5) (zq_bc (zq_eq (zq_rd m (Nat.add 9 c_p0)) (zq_rd m (Nat.add 9 c_p1))) (k 1) (k 0)) false) false)) false)) false
theorem sz_areJoined {pl sg : Nat → Nat → Int32} (H : zq_H pl sg) {post : Int32 → Prop} {k : Nat → Bool} (hk : ∀ (x : Int32) (c : Nat), x = nI c → k c = true → post x) {p0 : Int32} {c_p0 : Nat} (h_p0 : p0 = nI c_p0) {p1 : Int32} {c_p1 : Nat} (h_p1 : p1 = nI c_p1) {u : St2} {m : Nat} (hR : zq_R pl sg m u) (h : ez_areJoined k c_p0 c_p1 m = true) : wpX_areJoined post u p0 p1 := by
  obtain ⟨f0_first, f0_waiting, f0_holder, f0_wrong, a1, a2, a3, a4, a5, a6, a7, a8, a9, a10, a11, a12, a13, a14, a15, a16, a17⟩ := u
  unfold wpX_areJoined
  unfold ez_areJoined at h
  refine zq_vi h_p0 h (fun q1 h => ?_)
  refine zq_br (zq_ceq (zq_g1 hR h_p0 q1) (rfl : (0 : Int32) = nI 0)) h (fun h => ?_) (fun h => ?_)
  · exact hk _ _ (rfl : (0 : Int32) = nI 0) h
  · refine zq_vi h_p1 h (fun q2 h => ?_)
    refine zq_br (zq_ceq (zq_g1 hR h_p1 q2) (rfl : (0 : Int32) = nI 0)) h (fun h => ?_) (fun h => ?_)
    · exact hk _ _ (rfl : (0 : Int32) = nI 0) h
    · refine zq_vi h_p0 h (fun q3 h => ?_)
      refine zq_vi h_p1 h (fun q4 h => ?_)
      refine zq_br (zq_ceq (zq_g2 hR h_p0 q3) (zq_g2 hR h_p1 q4)) h (fun h => ?_) (fun h => ?_)
      · exact hk _ _ (rfl : (1 : Int32) = nI 1) h
      · exact hk _ _ (rfl : (0 : Int32) = nI 0) h
noncomputable def ez_reachedBy_4_b (k : Nat → Bool) (ih : Nat → Nat → Nat → Bool) (c_x1 : Nat) (c_x2 : Nat) (c_x3 : Nat) (m : Nat) : Bool := zq_bc (zq_le 5 c_x3) (k c_x2) (ez_areJoined (fun c1 => zq_bc (zq_eq c1 0) (zq_fo (Nat.lor c_x2 0) (fun c2 => zq_fo (zq_ad c_x3 1) (fun c3 => ih c2 c3 m))) (zq_fo (Nat.lor c_x2 (zq_sh c_x3)) (fun c4 => zq_fo (zq_ad c_x3 1) (fun c5 => ih c4 c5 m)))) c_x1 c_x3 m)
noncomputable def ez_reachedBy_4 (k : Nat → Bool) (c_x1 : Nat) (n : Nat) : Nat → Nat → Nat → Bool := Nat.rec (motive := fun _ => Nat → Nat → Nat → Bool) (fun _ _ _ => false) (fun _ ih => ez_reachedBy_4_b k ih c_x1) n
theorem sz_reachedBy_4 {pl sg : Nat → Nat → Int32} (H : zq_H pl sg) {post : Int32 → Prop} {k : Nat → Bool} (hk : ∀ (x : Int32) (c : Nat), x = nI c → k c = true → post x) {f0_first : Int32} {f0_waiting : Int32} {f0_holder : Int32} {f0_wrong : Int32} {a1 : Nat → Int32} {a2 : Nat → Int32} {a3 : Nat → Int32} {a4 : Nat → Int32} {a5 : Nat → Int32} {a6 : Nat → Int32} {a7 : Nat → Int32} {a8 : Nat → Int32} {a9 : Nat → Int32} {a10 : Nat → Int32} {a11 : Nat → Int32} {a12 : Nat → Int32} {a13 : Nat → Int32} {a14 : Nat → Int32} {a15 : Nat → Int32} {a16 : Nat → Int32} {a17 : Nat → Int32} {x1 : Int32} {c_x1 : Nat} (h_x1 : x1 = nI c_x1) : ∀ (n : Nat) (x2 : Int32) (c_x2 : Nat) (x3 : Int32) (c_x3 : Nat) (m : Nat), x2 = nI c_x2 → x3 = nI c_x3 → zq_R pl sg m (f0_first, f0_waiting, f0_holder, f0_wrong, a1, a2, a3, a4, a5, a6, a7, a8, a9, a10, a11, a12, a13, a14, a15, a16, a17) → ez_reachedBy_4 k c_x1 n c_x2 c_x3 m = true → wX_reachedBy_4 post x1 f0_first f0_waiting f0_holder f0_wrong a1 a2 a3 a4 a5 a6 a7 a8 a9 a10 a11 a12 a13 a14 a15 a16 a17 n x2 x3 := by
  intro n
  induction n with
  | zero =>
    intro x2 c_x2 x3 c_x3 m h_x2 h_x3 hR h
    exact zq_ff h
  | succ n ih =>
    intro x2 c_x2 x3 c_x3 m h_x2 h_x3 hR h
    have h : ez_reachedBy_4_b k (ez_reachedBy_4 k c_x1 n) c_x1 c_x2 c_x3 m = true := h
    unfold ez_reachedBy_4_b at h
    unfold wX_reachedBy_4
    refine zq_br (zq_cle (rfl : (5 : Int32) = nI 5) h_x3) h (fun h => ?_) (fun h => ?_)
    · exact hk _ _ h_x2 h
    · refine sz_areJoined H ?_ h_x1 h_x3 hR h
      intro r_2 c1 hc1 h
      refine zq_br (zq_ceq hc1 (rfl : (0 : Int32) = nI 0)) h (fun h => ?_) (fun h => ?_)
      · refine zq_le_t h (zq_xor h_x2 (rfl : (0 : Int32) = nI 0)) (fun x2_4 c2 hc2 h => ?_)
        refine zq_le_t h (zq_xad h_x3 (rfl : (1 : Int32) = nI 1)) (fun x3_5 c3 hc3 h => ?_)
        exact ih _ _ _ _ _ hc2 hc3 hR h
      · refine zq_le_t h (zq_xor h_x2 (zq_xsh h_x3)) (fun x2_6 c4 hc4 h => ?_)
        refine zq_le_t h (zq_xad h_x3 (rfl : (1 : Int32) = nI 1)) (fun x3_7 c5 hc5 h => ?_)
        exact ih _ _ _ _ _ hc4 hc5 hR h
noncomputable def ez_reachedBy (k : Nat → Bool) (c_p0 : Nat) (m : Nat) : Bool := ez_reachedBy_4 k c_p0 300 0 0 m
theorem sz_reachedBy {pl sg : Nat → Nat → Int32} (H : zq_H pl sg) {post : Int32 → Prop} {k : Nat → Bool} (hk : ∀ (x : Int32) (c : Nat), x = nI c → k c = true → post x) {p0 : Int32} {c_p0 : Nat} (h_p0 : p0 = nI c_p0) {u : St2} {m : Nat} (hR : zq_R pl sg m u) (h : ez_reachedBy k c_p0 m = true) : wpX_reachedBy post u p0 := by
  obtain ⟨f0_first, f0_waiting, f0_holder, f0_wrong, a1, a2, a3, a4, a5, a6, a7, a8, a9, a10, a11, a12, a13, a14, a15, a16, a17⟩ := u
  unfold wpX_reachedBy
  unfold ez_reachedBy at h
  exact ⟨300, sz_reachedBy_4 H hk h_p0 300 _ _ _ _ _ (rfl : (0 : Int32) = nI 0) (rfl : (0 : Int32) = nI 0) hR h⟩
noncomputable def ez_ones_4_b (k : Nat → Bool) (ih : Nat → Nat → Bool) (c_x0 : Nat) (c_x1 : Nat) (c_x2 : Nat) : Bool := zq_bc (zq_le 5 c_x2) (k c_x1) (zq_fo (zq_ad c_x1 (zq_bit c_x0 c_x2)) (fun c1 => zq_fo (zq_ad c_x2 1) (fun c2 => ih c1 c2)))
noncomputable def ez_ones_4 (k : Nat → Bool) (c_x0 : Nat) (n : Nat) : Nat → Nat → Bool := Nat.rec (motive := fun _ => Nat → Nat → Bool) (fun _ _ => false) (fun _ ih => ez_ones_4_b k ih c_x0) n
theorem sz_ones_4 {pl sg : Nat → Nat → Int32} (H : zq_H pl sg) {post : Int32 → Prop} {k : Nat → Bool} (hk : ∀ (x : Int32) (c : Nat), x = nI c → k c = true → post x) {x0 : Int32} {c_x0 : Nat} (h_x0 : x0 = nI c_x0) : ∀ (n : Nat) (x1 : Int32) (c_x1 : Nat) (x2 : Int32) (c_x2 : Nat), x1 = nI c_x1 → x2 = nI c_x2 → ez_ones_4 k c_x0 n c_x1 c_x2 = true → wX_ones_4 post x0 n x1 x2 := by
  intro n
  induction n with
  | zero =>
    intro x1 c_x1 x2 c_x2 h_x1 h_x2 h
    exact zq_ff h
  | succ n ih =>
    intro x1 c_x1 x2 c_x2 h_x1 h_x2 h
    have h : ez_ones_4_b k (ez_ones_4 k c_x0 n) c_x0 c_x1 c_x2 = true := h
    unfold ez_ones_4_b at h
    unfold wX_ones_4
    refine zq_br (zq_cle (rfl : (5 : Int32) = nI 5) h_x2) h (fun h => ?_) (fun h => ?_)
    · exact hk _ _ h_x1 h
    · refine zq_le_t h (zq_xad h_x1 (zq_xbit h_x0 h_x2)) (fun x1_2 c1 hc1 h => ?_)
      refine zq_le_t h (zq_xad h_x2 (rfl : (1 : Int32) = nI 1)) (fun x2_3 c2 hc2 h => ?_)
      exact ih _ _ _ _ hc1 hc2 h
noncomputable def ez_ones (k : Nat → Bool) (c_p0 : Nat) : Bool := ez_ones_4 k c_p0 300 0 0
theorem sz_ones {pl sg : Nat → Nat → Int32} (H : zq_H pl sg) {post : Int32 → Prop} {k : Nat → Bool} (hk : ∀ (x : Int32) (c : Nat), x = nI c → k c = true → post x) {p0 : Int32} {c_p0 : Nat} (h_p0 : p0 = nI c_p0) {u : St0} (h : ez_ones k c_p0 = true) : wpX_ones post u p0 := by
  unfold wpX_ones
  unfold ez_ones at h
  exact ⟨300, sz_ones_4 H hk h_p0 300 _ _ _ _ (rfl : (0 : Int32) = nI 0) (rfl : (0 : Int32) = nI 0) h⟩
noncomputable def ez_isMost (k : Nat → Bool) (c_p0 : Nat) (c_p1 : Nat) : Bool := zq_fo (Nat.land c_p0 c_p1) (fun c1 => ez_ones (fun c3 => ez_ones (fun c4 => zq_bc (zq_le (zq_ml 2 c3) c4) (k 0) (k 1)) c_p1) c1)
theorem sz_isMost {pl sg : Nat → Nat → Int32} (H : zq_H pl sg) {post : Int32 → Prop} {k : Nat → Bool} (hk : ∀ (x : Int32) (c : Nat), x = nI c → k c = true → post x) {p0 : Int32} {c_p0 : Nat} (h_p0 : p0 = nI c_p0) {p1 : Int32} {c_p1 : Nat} (h_p1 : p1 = nI c_p1) {u : St0} (h : ez_isMost k c_p0 c_p1 = true) : wpX_isMost post u p0 p1 := by
  unfold wpX_isMost
  unfold ez_isMost at h
  obtain ⟨c1, ec1, h⟩ := zq_fo_e h
  have hf2 := zq_tr (zq_xand h_p0 h_p1) ec1
  refine sz_ones H ?_ hf2 h
  intro r_1 c3 hc3 h
  refine sz_ones H ?_ h_p1 h
  intro r_2 c4 hc4 h
  refine zq_br (zq_cle (zq_xml (rfl : (2 : Int32) = nI 2) hc3) hc4) h (fun h => ?_) (fun h => ?_)
  · exact hk _ _ (rfl : (0 : Int32) = nI 0) h
  · exact hk _ _ (rfl : (1 : Int32) = nI 1) h
noncomputable def ez_giveUp_50 (k : Nat → Bool) (kJ2 : Nat → Nat → Bool) (c_x1 : Nat) (c_z0 : Nat) (m : Nat) : Bool := zq_bc (zq_eq c_z0 0) (zq_bc (zq_bl c_x1 5) (zq_fo (zq_wr m (Nat.add 14 c_x1) 0) (fun m1 => zq_fo (zq_ad c_x1 1) (fun c2 => kJ2 c2 m1))) false) (zq_bc (zq_bl c_x1 5) (zq_bc (zq_bl c_x1 5) (zq_fo (zq_wr m (Nat.add 14 c_x1) (zq_rd m (Nat.add 14 c_x1))) (fun m4 => zq_fo (zq_ad c_x1 1) (fun c5 => kJ2 c5 m4))) false) false)
theorem sz_giveUp_50 {pl sg : Nat → Nat → Int32} (H : zq_H pl sg) {post : St2 → Prop} {k : Nat → Bool} (hk : ∀ (u : St2) (m : Nat), zq_R pl sg m u → k m = true → post u) {f0_first : Int32} {f0_waiting : Int32} {f0_holder : Int32} {f0_wrong : Int32} {a1 : Nat → Int32} {a2 : Nat → Int32} {a3 : Nat → Int32} {a4 : Nat → Int32} {a5 : Nat → Int32} {a6 : Nat → Int32} {a7 : Nat → Int32} {a8 : Nat → Int32} {a9 : Nat → Int32} {a10 : Nat → Int32} {a11 : Nat → Int32} {a12 : Nat → Int32} {a13 : Nat → Int32} {a14 : Nat → Int32} {a15 : Nat → Int32} {a16 : Nat → Int32} {a17 : Nat → Int32} {J2 : Int32 → (Nat → Int32) → (Nat → Int32) → (Nat → Int32) → (Nat → Int32) → (Nat → Int32) → (Nat → Int32) → (Nat → Int32) → (Nat → Int32) → (Nat → Int32) → (Nat → Int32) → (Nat → Int32) → (Nat → Int32) → (Nat → Int32) → (Nat → Int32) → (Nat → Int32) → (Nat → Int32) → (Nat → Int32) → Prop} {kJ2 : Nat → Nat → Bool} (hJ2 : ∀ (x1_x : Int32) (x1_c : Nat) (m : Nat) (j_a1 : Nat → Int32) (j_a2 : Nat → Int32) (j_a3 : Nat → Int32) (j_a4 : Nat → Int32) (j_a5 : Nat → Int32) (j_a6 : Nat → Int32) (j_a7 : Nat → Int32) (j_a8 : Nat → Int32) (j_a9 : Nat → Int32) (j_a10 : Nat → Int32) (j_a11 : Nat → Int32) (j_a12 : Nat → Int32) (j_a13 : Nat → Int32) (j_a14 : Nat → Int32) (j_a15 : Nat → Int32) (j_a16 : Nat → Int32) (j_a17 : Nat → Int32), x1_x = nI x1_c → zq_R pl sg m (f0_first, f0_waiting, f0_holder, f0_wrong, j_a1, j_a2, j_a3, j_a4, j_a5, j_a6, j_a7, j_a8, j_a9, j_a10, j_a11, j_a12, j_a13, j_a14, j_a15, j_a16, j_a17) → kJ2 x1_c m = true → J2 x1_x j_a1 j_a2 j_a3 j_a4 j_a5 j_a6 j_a7 j_a8 j_a9 j_a10 j_a11 j_a12 j_a13 j_a14 j_a15 j_a16 j_a17) {x1 : Int32} {c_x1 : Nat} (h_x1 : x1 = nI c_x1) {z0 : Int32} {c_z0 : Nat} (h_z0 : z0 = nI c_z0) {m : Nat} (hR : zq_R pl sg m (f0_first, f0_waiting, f0_holder, f0_wrong, a1, a2, a3, a4, a5, a6, a7, a8, a9, a10, a11, a12, a13, a14, a15, a16, a17)) (h : ez_giveUp_50 k kJ2 c_x1 c_z0 m = true) : wX_giveUp_50 post J2 x1 z0 f0_first f0_waiting f0_holder f0_wrong a1 a2 a3 a4 a5 a6 a7 a8 a9 a10 a11 a12 a13 a14 a15 a16 a17 := by
  unfold wX_giveUp_50
  unfold ez_giveUp_50 at h
  refine zq_br (zq_ceq h_z0 (rfl : (0 : Int32) = nI 0)) h (fun h => ?_) (fun h => ?_)
  · refine zq_st3 hR h_x1 (rfl : (0 : Int32) = nI 0) h (fun a3_8 m1 hR h => ?_)
    refine zq_le_t h (zq_xad h_x1 (rfl : (1 : Int32) = nI 1)) (fun x1_9 c2 hc2 h => ?_)
    exact hJ2 _ _ _ _ _ _ _ _ _ _ _ _ _ _ _ _ _ _ _ _ hc2 hR h
  · refine zq_vi h_x1 h (fun q3 h => ?_)
    refine zq_st3 hR h_x1 (zq_g3 hR h_x1 q3) h (fun a3_12 m4 hR h => ?_)
    refine zq_le_t h (zq_xad h_x1 (rfl : (1 : Int32) = nI 1)) (fun x1_13 c5 hc5 h => ?_)
    exact hJ2 _ _ _ _ _ _ _ _ _ _ _ _ _ _ _ _ _ _ _ _ hc5 hR h
noncomputable def ez_giveUp_49 (k : Nat → Bool) (kJ2 : Nat → Nat → Bool) (c_x1 : Nat) (m : Nat) : Bool := ez_giveUp_50 k kJ2 c_x1 0 m
theorem sz_giveUp_49 {pl sg : Nat → Nat → Int32} (H : zq_H pl sg) {post : St2 → Prop} {k : Nat → Bool} (hk : ∀ (u : St2) (m : Nat), zq_R pl sg m u → k m = true → post u) {f0_first : Int32} {f0_waiting : Int32} {f0_holder : Int32} {f0_wrong : Int32} {a1 : Nat → Int32} {a2 : Nat → Int32} {a3 : Nat → Int32} {a4 : Nat → Int32} {a5 : Nat → Int32} {a6 : Nat → Int32} {a7 : Nat → Int32} {a8 : Nat → Int32} {a9 : Nat → Int32} {a10 : Nat → Int32} {a11 : Nat → Int32} {a12 : Nat → Int32} {a13 : Nat → Int32} {a14 : Nat → Int32} {a15 : Nat → Int32} {a16 : Nat → Int32} {a17 : Nat → Int32} {J2 : Int32 → (Nat → Int32) → (Nat → Int32) → (Nat → Int32) → (Nat → Int32) → (Nat → Int32) → (Nat → Int32) → (Nat → Int32) → (Nat → Int32) → (Nat → Int32) → (Nat → Int32) → (Nat → Int32) → (Nat → Int32) → (Nat → Int32) → (Nat → Int32) → (Nat → Int32) → (Nat → Int32) → (Nat → Int32) → Prop} {kJ2 : Nat → Nat → Bool} (hJ2 : ∀ (x1_x : Int32) (x1_c : Nat) (m : Nat) (j_a1 : Nat → Int32) (j_a2 : Nat → Int32) (j_a3 : Nat → Int32) (j_a4 : Nat → Int32) (j_a5 : Nat → Int32) (j_a6 : Nat → Int32) (j_a7 : Nat → Int32) (j_a8 : Nat → Int32) (j_a9 : Nat → Int32) (j_a10 : Nat → Int32) (j_a11 : Nat → Int32) (j_a12 : Nat → Int32) (j_a13 : Nat → Int32) (j_a14 : Nat → Int32) (j_a15 : Nat → Int32) (j_a16 : Nat → Int32) (j_a17 : Nat → Int32), x1_x = nI x1_c → zq_R pl sg m (f0_first, f0_waiting, f0_holder, f0_wrong, j_a1, j_a2, j_a3, j_a4, j_a5, j_a6, j_a7, j_a8, j_a9, j_a10, j_a11, j_a12, j_a13, j_a14, j_a15, j_a16, j_a17) → kJ2 x1_c m = true → J2 x1_x j_a1 j_a2 j_a3 j_a4 j_a5 j_a6 j_a7 j_a8 j_a9 j_a10 j_a11 j_a12 j_a13 j_a14 j_a15 j_a16 j_a17) {x1 : Int32} {c_x1 : Nat} (h_x1 : x1 = nI c_x1) {m : Nat} (hR : zq_R pl sg m (f0_first, f0_waiting, f0_holder, f0_wrong, a1, a2, a3, a4, a5, a6, a7, a8, a9, a10, a11, a12, a13, a14, a15, a16, a17)) (h : ez_giveUp_49 k kJ2 c_x1 m = true) : wX_giveUp_49 post J2 x1 f0_first f0_waiting f0_holder f0_wrong a1 a2 a3 a4 a5 a6 a7 a8 a9 a10 a11 a12 a13 a14 a15 a16 a17 := by
  unfold wX_giveUp_49
  unfold ez_giveUp_49 at h
  exact sz_giveUp_50 H hk hJ2 h_x1 (rfl : (0 : Int32) = nI 0) hR h
noncomputable def ez_giveUp_2_b (k : Nat → Bool) (ih : Nat → Nat → Bool) (c_x1 : Nat) (m : Nat) : Bool := zq_bc (zq_le 5 c_x1) (k m) (ez_membersFor (fun c1 => ez_reachedBy (fun c2 => zq_bc (zq_bl c_x1 5) (zq_bc (zq_eq (zq_rd m (Nat.add 4 c_x1)) 0) (ez_giveUp_49 k ih c_x1 m) (zq_bc (zq_eq (zq_bit c1 c_x1) 1) (ez_isMost (fun c4 => zq_bc (zq_eq c4 0) (ez_giveUp_49 k ih c_x1 m) (ez_giveUp_50 k ih c_x1 1 m)) c2 c1) (ez_giveUp_49 k ih c_x1 m))) false) c_x1 m) c_x1 m)
noncomputable def ez_giveUp_2 (k : Nat → Bool) (n : Nat) : Nat → Nat → Bool := Nat.rec (motive := fun _ => Nat → Nat → Bool) (fun _ _ => false) (fun _ ih => ez_giveUp_2_b k ih) n
theorem sz_giveUp_2 {pl sg : Nat → Nat → Int32} (H : zq_H pl sg) {post : St2 → Prop} {k : Nat → Bool} (hk : ∀ (u : St2) (m : Nat), zq_R pl sg m u → k m = true → post u) {f0_first : Int32} {f0_waiting : Int32} {f0_holder : Int32} {f0_wrong : Int32} : ∀ (n : Nat) (x1 : Int32) (c_x1 : Nat) (m : Nat) (a1 : Nat → Int32) (a2 : Nat → Int32) (a3 : Nat → Int32) (a4 : Nat → Int32) (a5 : Nat → Int32) (a6 : Nat → Int32) (a7 : Nat → Int32) (a8 : Nat → Int32) (a9 : Nat → Int32) (a10 : Nat → Int32) (a11 : Nat → Int32) (a12 : Nat → Int32) (a13 : Nat → Int32) (a14 : Nat → Int32) (a15 : Nat → Int32) (a16 : Nat → Int32) (a17 : Nat → Int32), x1 = nI c_x1 → zq_R pl sg m (f0_first, f0_waiting, f0_holder, f0_wrong, a1, a2, a3, a4, a5, a6, a7, a8, a9, a10, a11, a12, a13, a14, a15, a16, a17) → ez_giveUp_2 k n c_x1 m = true → wX_giveUp_2 post f0_first f0_waiting f0_holder f0_wrong n x1 a1 a2 a3 a4 a5 a6 a7 a8 a9 a10 a11 a12 a13 a14 a15 a16 a17 := by
  intro n
  induction n with
  | zero =>
    intro x1 c_x1 m a1 a2 a3 a4 a5 a6 a7 a8 a9 a10 a11 a12 a13 a14 a15 a16 a17 h_x1 hR h
    exact zq_ff h
  | succ n ih =>
    intro x1 c_x1 m a1 a2 a3 a4 a5 a6 a7 a8 a9 a10 a11 a12 a13 a14 a15 a16 a17 h_x1 hR h
    have h : ez_giveUp_2_b k (ez_giveUp_2 k n) c_x1 m = true := h
    unfold ez_giveUp_2_b at h
    unfold wX_giveUp_2
    refine zq_br (zq_cle (rfl : (5 : Int32) = nI 5) h_x1) h (fun h => ?_) (fun h => ?_)
    · exact hk _ _ hR h
    · refine sz_membersFor H ?_ h_x1 hR h
      intro r_2 c1 hc1 h
      refine sz_reachedBy H ?_ h_x1 hR h
      intro r_3 c2 hc2 h
      refine zq_vi h_x1 h (fun q3 h => ?_)
      refine zq_br (zq_ceq (zq_g1 hR h_x1 q3) (rfl : (0 : Int32) = nI 0)) h (fun h => ?_) (fun h => ?_)
      · exact sz_giveUp_49 H hk ih h_x1 hR h
      · refine zq_br (zq_ceq (zq_xbit hc1 h_x1) (rfl : (1 : Int32) = nI 1)) h (fun h => ?_) (fun h => ?_)
        · refine sz_isMost H ?_ hc2 hc1 h
          intro r_15 c4 hc4 h
          refine zq_br (zq_ceq hc4 (rfl : (0 : Int32) = nI 0)) h (fun h => ?_) (fun h => ?_)
          · exact sz_giveUp_49 H hk ih h_x1 hR h
          · exact sz_giveUp_50 H hk ih h_x1 (rfl : (1 : Int32) = nI 1) hR h
        · exact sz_giveUp_49 H hk ih h_x1 hR h
noncomputable def ez_giveUp (k : Nat → Bool) (m : Nat) : Bool := ez_giveUp_2 k 300 0 m
theorem sz_giveUp {pl sg : Nat → Nat → Int32} (H : zq_H pl sg) {post : St2 → Prop} {k : Nat → Bool} (hk : ∀ (u : St2) (m : Nat), zq_R pl sg m u → k m = true → post u) {u : St2} {m : Nat} (hR : zq_R pl sg m u) (h : ez_giveUp k m = true) : wpX_giveUp post u := by
  obtain ⟨f0_first, f0_waiting, f0_holder, f0_wrong, a1, a2, a3, a4, a5, a6, a7, a8, a9, a10, a11, a12, a13, a14, a15, a16, a17⟩ := u
  unfold wpX_giveUp
  unfold ez_giveUp at h
  exact ⟨300, sz_giveUp_2 H hk 300 _ _ _ _ _ _ _ _ _ _ _ _ _ _ _ _ _ _ _ _ (rfl : (0 : Int32) = nI 0) hR h⟩
noncomputable def ez_leaderNow_2_b (k : Nat → Bool) (ih : Nat → Nat → Bool) (c_x1 : Nat) (m : Nat) : Bool := zq_bc (zq_le 5 c_x1) (k 4294967295) (zq_bc (zq_bl c_x1 5) (zq_bc (zq_eq (zq_rd m (Nat.add 14 c_x1)) 1) (k c_x1) (zq_fo (zq_ad c_x1 1) (fun c2 => ih c2 m))) false)
noncomputable def ez_leaderNow_2 (k : Nat → Bool) (n : Nat) : Nat → Nat → Bool := Nat.rec (motive := fun _ => Nat → Nat → Bool) (fun _ _ => false) (fun _ ih => ez_leaderNow_2_b k ih) n
theorem sz_leaderNow_2 {pl sg : Nat → Nat → Int32} (H : zq_H pl sg) {post : Int32 → Prop} {k : Nat → Bool} (hk : ∀ (x : Int32) (c : Nat), x = nI c → k c = true → post x) {f0_first : Int32} {f0_waiting : Int32} {f0_holder : Int32} {f0_wrong : Int32} {a1 : Nat → Int32} {a2 : Nat → Int32} {a3 : Nat → Int32} {a4 : Nat → Int32} {a5 : Nat → Int32} {a6 : Nat → Int32} {a7 : Nat → Int32} {a8 : Nat → Int32} {a9 : Nat → Int32} {a10 : Nat → Int32} {a11 : Nat → Int32} {a12 : Nat → Int32} {a13 : Nat → Int32} {a14 : Nat → Int32} {a15 : Nat → Int32} {a16 : Nat → Int32} {a17 : Nat → Int32} : ∀ (n : Nat) (x1 : Int32) (c_x1 : Nat) (m : Nat), x1 = nI c_x1 → zq_R pl sg m (f0_first, f0_waiting, f0_holder, f0_wrong, a1, a2, a3, a4, a5, a6, a7, a8, a9, a10, a11, a12, a13, a14, a15, a16, a17) → ez_leaderNow_2 k n c_x1 m = true → wX_leaderNow_2 post f0_first f0_waiting f0_holder f0_wrong a1 a2 a3 a4 a5 a6 a7 a8 a9 a10 a11 a12 a13 a14 a15 a16 a17 n x1 := by
  intro n
  induction n with
  | zero =>
    intro x1 c_x1 m h_x1 hR h
    exact zq_ff h
  | succ n ih =>
    intro x1 c_x1 m h_x1 hR h
    have h : ez_leaderNow_2_b k (ez_leaderNow_2 k n) c_x1 m = true := h
    unfold ez_leaderNow_2_b at h
    unfold wX_leaderNow_2
    refine zq_br (zq_cle (rfl : (5 : Int32) = nI 5) h_x1) h (fun h => ?_) (fun h => ?_)
    · exact hk _ _ zq_m1 h
    · refine zq_vi h_x1 h (fun q1 h => ?_)
      refine zq_br (zq_ceq (zq_g3 hR h_x1 q1) (rfl : (1 : Int32) = nI 1)) h (fun h => ?_) (fun h => ?_)
      · exact hk _ _ h_x1 h
      · refine zq_le_t h (zq_xad h_x1 (rfl : (1 : Int32) = nI 1)) (fun x1_4 c2 hc2 h => ?_)
        exact ih _ _ _ hc2 hR h
noncomputable def ez_leaderNow (k : Nat → Bool) (m : Nat) : Bool := ez_leaderNow_2 k 300 0 m
theorem sz_leaderNow {pl sg : Nat → Nat → Int32} (H : zq_H pl sg) {post : Int32 → Prop} {k : Nat → Bool} (hk : ∀ (x : Int32) (c : Nat), x = nI c → k c = true → post x) {u : St2} {m : Nat} (hR : zq_R pl sg m u) (h : ez_leaderNow k m = true) : wpX_leaderNow post u := by
  obtain ⟨f0_first, f0_waiting, f0_holder, f0_wrong, a1, a2, a3, a4, a5, a6, a7, a8, a9, a10, a11, a12, a13, a14, a15, a16, a17⟩ := u
  unfold wpX_leaderNow
  unfold ez_leaderNow at h
  exact ⟨300, sz_leaderNow_2 H hk 300 _ _ _ (rfl : (0 : Int32) = nI 0) hR h⟩
noncomputable def ez_termAt (k : Nat → Bool) (c_p0 : Nat) (c_p1 : Nat) (m : Nat) : Bool := zq_bc (zq_bl c_p0 5) (zq_bc (zq_eq c_p1 (zq_rd m (Nat.add 34 c_p0))) (zq_bc (zq_bl c_p0 5) (zq_fo (zq_rd m (Nat.add 39 c_p0)) (fun c3 => k c3)) false) (ez_cellOf (fun c5 => zq_bc (zq_bl c5 560) (zq_bc (Nat.beq (Nat.mod c5 7) 0) (zq_fo (Nat.mod (zq_rd m (Nat.add 123 (Nat.div c5 7))) 65536) (fun c8 => k c8)) false) false) c_p0 c_p1 m)) false
theorem sz_termAt {pl sg : Nat → Nat → Int32} (H : zq_H pl sg) {post : Int32 → Prop} {k : Nat → Bool} (hk : ∀ (x : Int32) (c : Nat), x = nI c → k c = true → post x) {p0 : Int32} {c_p0 : Nat} (h_p0 : p0 = nI c_p0) {p1 : Int32} {c_p1 : Nat} (h_p1 : p1 = nI c_p1) {u : St2} {m : Nat} (hR : zq_R pl sg m u) (h : ez_termAt k c_p0 c_p1 m = true) : wpX_termAt post u p0 p1 := by
  obtain ⟨f0_first, f0_waiting, f0_holder, f0_wrong, a1, a2, a3, a4, a5, a6, a7, a8, a9, a10, a11, a12, a13, a14, a15, a16, a17⟩ := u
  unfold wpX_termAt
  unfold ez_termAt at h
  refine zq_vi h_p0 h (fun q1 h => ?_)
  refine zq_br (zq_ceq h_p1 (zq_g7 hR h_p0 q1)) h (fun h => ?_) (fun h => ?_)
  · refine zq_vi h_p0 h (fun q2 h => ?_)
    obtain ⟨c3, ec3, h⟩ := zq_fo_e h
    have hf4 := zq_tr (zq_g8 hR h_p0 q2) ec3
    exact hk _ _ hf4 h
  · refine sz_cellOf H ?_ h_p0 h_p1 hR h
    intro r_3 c5 hc5 h
    refine zq_vi hc5 h (fun q6 h => ?_)
    obtain ⟨q7, h⟩ := zq_bc_s h
    obtain ⟨c8, ec8, h⟩ := zq_fo_e h
    have hf9 := zq_tr (zq_g10 hR hc5 q6 q7) ec8
    exact hk _ _ hf9 h
end
section
/-- the three stores of a command that is carried out -/
theorem zq_carry {sg : Nat → Nat → Int32} {m m' p s y : Nat} {v1 v2 : Int32} {a : Nat → Int32} (hA : zq_A sg m 54 a) (hm : m' = zq_wr m (54 + p) (zq_rd m (54 + p) + 64)) (hp : p < 5) (hs : s < 4) (hy : y < 6) (hd : zq_rd m (54 + p) < 64) (h0 : ∀ j, sg 0 j = 0)
    (h1 : ∀ j, j < 14 → sg 1 j = if j = 10 + s then 0 else if j = 6 + s then v2 else if j = y then v1 else 0) :
    zq_A sg m' 54 (upd (upd (upd a (15 * p + y) v1) (15 * p + 6 + s) v2) (15 * p + 10 + s) (a (15 * p + y))) := by
  intro n j hn hj
  by_cases en : n = p
  · subst en
    have e1 : zq_rd m' (54 + n) = zq_rd m (54 + n) + 64 := by
      rw [zq_rw_e hm]
      omega
    rw [e1]
    have ay : a (15 * n + y) = 0 := by
      rw [hA n y hn (by omega)]
      unfold zq_ac
      rw [if_neg (by omega)]
      have e2 : zq_rd m (54 + n) / 64 = 0 := by omega
      rw [e2, h0]
    rw [ay]
    by_cases ej : j = 14
    · subst ej
      rw [pk_un (by omega), pk_un (by omega), pk_un (by omega), hA n 14 hn hj]
      unfold zq_ac
      rw [if_pos rfl, if_pos rfl]
      apply congrArg nI
      omega
    · have ea : a (15 * n + j) = 0 := by
        rw [hA n j hn hj]
        unfold zq_ac
        rw [if_neg ej]
        have e2 : zq_rd m (54 + n) / 64 = 0 := by omega
        rw [e2, h0]
      unfold zq_ac
      rw [if_neg ej]
      have e2 : (zq_rd m (54 + n) + 64) / 64 = 1 := by omega
      rw [e2, h1 j (by omega)]
      by_cases e10 : j = 10 + s
      · have e3 : 15 * n + j = 15 * n + 10 + s := by omega
        rw [if_pos e10, e3, pk_us]
      · rw [if_neg e10, pk_un (by omega)]
        by_cases e6 : j = 6 + s
        · have e3 : 15 * n + j = 15 * n + 6 + s := by omega
          rw [if_pos e6, e3, pk_us]
        · rw [if_neg e6, pk_un (by omega)]
          by_cases ey : j = y
          · have e3 : 15 * n + j = 15 * n + y := by omega
            rw [if_pos ey, e3, pk_us]
          · rw [if_neg ey, pk_un (by omega), ea]
  · rw [pk_un (by omega), pk_un (by omega), pk_un (by omega), hA n j hn hj, zq_rw_n hm (j := 54 + n) (by omega)]
noncomputable def ez_carryOut (k : Nat → Bool) (c_p0 : Nat) (c_p1 : Nat) (m : Nat) : Bool :=
  zq_bc (zq_bl c_p0 5) (zq_bc (zq_bl c_p1 554) (zq_bc (Nat.beq (Nat.mod c_p1 7) 0) (zq_fo (Nat.div (zq_rd m (Nat.add 123 (Nat.div c_p1 7))) 65536) (fun i =>
    zq_bc (Nat.beq i 3) (k m)
      (zq_bc (Nat.beq i 1) (zq_bc (zq_bl (zq_rd m (Nat.add 54 c_p0)) 64) (zq_fo (zq_wr m (Nat.add 54 c_p0) (Nat.add (zq_rd m (Nat.add 54 c_p0)) 64)) k) false)
        (zq_bc (Nat.ble 16 i) (zq_bc (zq_bl (Nat.sub i 16) 5)
          (zq_fo (zq_ad (zq_ml 15 c_p0) 14) (fun x => zq_bc (zq_bl x 75) (zq_bc (Nat.beq (Nat.mod x 15) 14)
            (zq_fo (Nat.land (Nat.mod (zq_rd m (Nat.add 54 (Nat.div x 15))) 64) (Nat.xor (zq_sh (Nat.sub i 16)) 4294967295)) (fun w => zq_bc (zq_bl w 64)
              (zq_bc (zq_bl x 75) (zq_fo (zq_wr m (Nat.add 54 (Nat.div x 15)) (Nat.add (Nat.mul (Nat.div (zq_rd m (Nat.add 54 (Nat.div x 15))) 64) 64) w)) k) false) false)) false) false)) false) false)))) false) false) false
theorem sz_carryOut {pl sg : Nat → Nat → Int32} (H : zq_H pl sg) {post : St2 → Prop} {k : Nat → Bool} (hk : ∀ (u : St2) (m : Nat), zq_R pl sg m u → k m = true → post u) {p0 : Int32} {c_p0 : Nat} (h_p0 : p0 = nI c_p0) {p1 : Int32} {c_p1 : Nat} (h_p1 : p1 = nI c_p1) {u : St2} {m : Nat} (hR : zq_R pl sg m u) (h : ez_carryOut k c_p0 c_p1 m = true) : wpX_carryOut post u p0 p1 := by
  obtain ⟨f0_first, f0_waiting, f0_holder, f0_wrong, a1, a2, a3, a4, a5, a6, a7, a8, a9, a10, a11, a12, a13, a14, a15, a16, a17⟩ := u
  unfold wpX_carryOut
  unfold ez_carryOut at h
  obtain ⟨q0, h⟩ := zq_bc_s h
  obtain ⟨q1, h⟩ := zq_bc_s h
  obtain ⟨q2, h⟩ := zq_bc_s h
  obtain ⟨i, ei, h⟩ := zq_fo_e h
  have q0 : c_p0 < 5 := zq_bl_s q0
  have q1 := zq_bl_s q1
  have q2 : c_p1 % 7 = 0 := zq_beq_s q2
  have ei : i = zq_rd m (123 + c_p1 / 7) / 65536 := ei
  have hL := zq_p10 hR
  have V1 := (zq_lcl h_p1 q1 1 (by decide)).2
  have V2 := (zq_lcl h_p1 q1 2 (by decide)).2
  have V3 := (zq_lcl h_p1 q1 3 (by decide)).2
  have V4 := (zq_lcl h_p1 q1 4 (by decide)).2
  have V5 := (zq_lcl h_p1 q1 5 (by decide)).2
  have V6 := (zq_lcl h_p1 q1 6 (by decide)).2
  have A1 : a10 (p1 + 1).toNatClampNeg = pl i 1 := by
    have e : (p1 + 1).toNatClampNeg = c_p1 + 1 := (zq_lcl h_p1 q1 1 (by decide)).1
    rw [e]
    exact zq_lcp hL q1 q2 (by decide) (by decide) ei
  have A2 : a10 (p1 + 2).toNatClampNeg = pl i 2 := by
    have e : (p1 + 2).toNatClampNeg = c_p1 + 2 := (zq_lcl h_p1 q1 2 (by decide)).1
    rw [e]
    exact zq_lcp hL q1 q2 (by decide) (by decide) ei
  have A3 : a10 (p1 + 3).toNatClampNeg = pl i 3 := by
    have e : (p1 + 3).toNatClampNeg = c_p1 + 3 := (zq_lcl h_p1 q1 3 (by decide)).1
    rw [e]
    exact zq_lcp hL q1 q2 (by decide) (by decide) ei
  have A4 : a10 (p1 + 4).toNatClampNeg = pl i 4 := by
    have e : (p1 + 4).toNatClampNeg = c_p1 + 4 := (zq_lcl h_p1 q1 4 (by decide)).1
    rw [e]
    exact zq_lcp hL q1 q2 (by decide) (by decide) ei
  have A5 : a10 (p1 + 5).toNatClampNeg = pl i 5 := by
    have e : (p1 + 5).toNatClampNeg = c_p1 + 5 := (zq_lcl h_p1 q1 5 (by decide)).1
    rw [e]
    exact zq_lcp hL q1 q2 (by decide) (by decide) ei
  have A6 : a10 (p1 + 6).toNatClampNeg = pl i 6 := by
    have e : (p1 + 6).toNatClampNeg = c_p1 + 6 := (zq_lcl h_p1 q1 6 (by decide)).1
    rw [e]
    exact zq_lcp hL q1 q2 (by decide) (by decide) ei
  refine ⟨V1, ?_⟩
  rw [A1]
  rcases zq_bc_b h with ⟨q3, h2⟩ | ⟨_, h2⟩
  · have q3 := zq_beq_s q3
    subst q3
    rw [zq_H3 H 1]
    refine nm_e (nm_e (br_f (by decide) (br_f (by decide) (br_t rfl ?_))))
    exact hk _ _ hR h2
  rcases zq_bc_b h2 with ⟨q3, h3⟩ | ⟨_, h3⟩
  · have q3 := zq_beq_s q3
    subst q3
    obtain ⟨q4, h⟩ := zq_bc_s h3
    have q4 : zq_rd m (54 + c_p0) < 64 := zq_bl_s q4
    obtain ⟨m2, hm, h⟩ := zq_fo_e h
    have hm : m2 = zq_wr m (54 + c_p0) (zq_rd m (54 + c_p0) + 64) := hm
    obtain ⟨kd, s, y, hkd, hs, hy, e1, e2, e3, hsg⟩ := H.2.2.2.1
    have h0 := H.2.2.1
    have nk := zq_Hk H (i := 1) (by decide) (by decide)
    have n3 : ¬ pl 1 1 = 3 := by
      rw [e1]
      have hk : kd = 0 ∨ kd = 1 ∨ kd = 2 := by omega
      rcases hk with e | e | e <;> subst e <;> decide
    have x4 : (15 : Int32) * p0 = nI (15 * c_p0) := by
      rw [h_p0]
      exact pk_mul 15 c_p0
    have x6 : (15 : Int32) * p0 + pl 1 3 = nI (15 * c_p0 + y) := by
      rw [x4, e3, nI_add]
    have c6 : ((15 : Int32) * p0 + pl 1 3).toNatClampNeg = 15 * c_p0 + y := by
      rw [x6]
      exact nI_clamp (by omega)
    have w6 : vp_in ((15 : Int32) * p0 + pl 1 3) 75 := by
      rw [x6]
      exact vp_in_nI (by omega) (by decide)
    have x7 : (15 : Int32) * p0 + 6 + pl 1 2 = nI (15 * c_p0 + 6 + s) := by
      rw [x4, e2]
      show nI (15 * c_p0) + nI 6 + nI s = _
      rw [nI_add, nI_add]
    have c7 : ((15 : Int32) * p0 + 6 + pl 1 2).toNatClampNeg = 15 * c_p0 + 6 + s := by
      rw [x7]
      exact nI_clamp (by omega)
    have w7 : vp_in ((15 : Int32) * p0 + 6 + pl 1 2) 75 := by
      rw [x7]
      exact vp_in_nI (by omega) (by decide)
    have x8 : (15 : Int32) * p0 + 10 + pl 1 2 = nI (15 * c_p0 + 10 + s) := by
      rw [x4, e2]
      show nI (15 * c_p0) + nI 10 + nI s = _
      rw [nI_add, nI_add]
    have c8 : ((15 : Int32) * p0 + 10 + pl 1 2).toNatClampNeg = 15 * c_p0 + 10 + s := by
      rw [x8]
      exact nI_clamp (by omega)
    have w8 : vp_in ((15 : Int32) * p0 + 10 + pl 1 2) 75 := by
      rw [x8]
      exact vp_in_nI (by omega) (by decide)
    have ay : a12 (15 * c_p0 + y) = 0 := by
      rw [zq_p12 hR c_p0 y q0 (by omega)]
      unfold zq_ac
      rw [if_neg (by omega)]
      have e2 : zq_rd m (54 + c_p0) / 64 = 0 := by omega
      rw [e2, h0]
    have tail : ∀ z : Int32, z = (if kd = 0 then pl 1 5 else if kd = 1 then 0 + pl 1 5 else if (0 : Int32) = pl 1 5 then pl 1 6 else 0) →
        wX_carryOut_181 post p1 (15 * p0) (pl 1 2) (a12 (15 * c_p0 + y)) z ((15 : Int32) * p0 + pl 1 3) f0_first f0_waiting f0_holder f0_wrong a1 a2 a3 a4 a5 a6 a7 a8 a9 a10 a11 a12 a13 a14 a15 a16 a17 := by
      intro z ez
      unfold wX_carryOut_181
      refine ⟨w6, nm_e ⟨V4, w7, nm_e ⟨w8, nm_e ?_⟩⟩⟩
      rw [A4, c6, c7, c8]
      refine hk _ _ (zq_x12 hR hm (by omega) (by omega) ?_) h
      refine zq_carry (zq_p12 hR) hm q0 hs hy q4 h0 ?_
      intro j hj
      rw [hsg j hj, ez]
    refine nm_e (nm_e (br_f nk.1 (br_f nk.2 (br_f n3 ⟨V2, ?_⟩))))
    rw [A2]
    refine nm_e ⟨V3, ?_⟩
    rw [A3]
    refine nm_e ⟨w6, ?_⟩
    rw [c6]
    refine nm_e ⟨V5, ?_⟩
    rw [A5]
    refine nm_e ?_
    have hkc : kd = 0 ∨ kd = 1 ∨ kd = 2 := by omega
    rcases hkc with e | e | e
    · refine br_t (by rw [e1, e]; rfl) (tail _ ?_)
      rw [if_pos e]
    · refine br_f (by rw [e1, e]; decide) (br_t (by rw [e1, e]; rfl) (tail _ ?_))
      rw [if_neg (by omega), if_pos e, ay]
    · refine br_f (by rw [e1, e]; decide) (br_f (by rw [e1, e]; decide) (br_c (fun g => ⟨V6, ?_⟩) (fun g => tail _ ?_)))
      · rw [A6]
        refine tail _ ?_
        rw [if_neg (by omega), if_neg (by omega), if_pos]
        rw [← g, ay]
      · rw [if_neg (by omega), if_neg (by omega), if_neg]
        · exact ay
        · intro z
          exact g (ay.trans z)
  · obtain ⟨q4, h⟩ := zq_bc_s h3
    obtain ⟨q5, h⟩ := zq_bc_s h
    obtain ⟨x, ex, h⟩ := zq_fo_e h
    obtain ⟨q6, h⟩ := zq_bc_s h
    obtain ⟨q7, h⟩ := zq_bc_s h
    obtain ⟨w, ew, h⟩ := zq_fo_e h
    obtain ⟨q8, h⟩ := zq_bc_s h
    have q4 := zq_ble_s q4
    have q5 : i - 16 < 5 := zq_bl_s q5
    have ei2 : i = 16 + (i - 16) := by omega
    have p1e : pl i 1 = 5 := by
      rw [ei2]
      exact zq_H16 H (i - 16) 1 q5
    have p3e : pl i 3 = nI (i - 16) := by
      have e := zq_H16 H (i - 16) 3 q5
      rw [← ei2] at e
      exact e
    rw [p1e]
    refine nm_e (nm_e (br_f (by decide) (br_t rfl ?_)))
    unfold wX_carryOut_25
    refine ⟨V3, ?_⟩
    rw [A3, p3e]
    have hx : (15 : Int32) * p0 + 14 = nI x := zq_tr (zq_xad (zq_xml (rfl : (15 : Int32) = nI 15) h_p0) (rfl : (14 : Int32) = nI 14)) ex
    have hv : a12 ((15 : Int32) * p0 + 14).toNatClampNeg &&& (((1 : Int32) <<< (nI (i - 16) &&& 31)) ^^^ (-1)) = nI w := zq_tr (zq_xand (zq_g12m hR hx q6 q7) (zq_xxor (zq_xsh rfl) zq_m1)) ew
    have hvi : vp_in ((15 : Int32) * p0 + 14) 75 := by
      rw [hx]
      exact vp_in_nI (zq_bl_s q6) (by decide)
    refine nm_e (br_f (by decide) ⟨hvi, ?_⟩)
    refine zq_st12m hR hx hv q7 q8 h (fun a' m' hR h => ?_)
    exact hk _ _ hR h
noncomputable def ez_countTo_0_b (k : Nat → Bool) (ih : Nat → Bool) (c_x1 : Nat) (c_x2 : Nat) (m : Nat) : Bool := zq_bc (zq_bl c_x1 5) (zq_bc (zq_le c_x2 (zq_rd m (Nat.add 49 c_x1))) (k m) (zq_bc (zq_bl c_x1 5) (ez_lastOf (fun c3 => zq_bc (zq_le c3 (zq_rd m (Nat.add 49 c_x1))) (k m) (zq_bc (zq_bl c_x1 5) (zq_bc (zq_bl c_x1 5) (zq_fo (zq_wr m (Nat.add 49 c_x1) (zq_ad (zq_rd m (Nat.add 49 c_x1)) 1)) (fun m5 => zq_bc (zq_bl c_x1 5) (zq_fo (zq_rd m5 (Nat.add 49 c_x1)) (fun c7 => ez_cellOf (fun c9 => ez_carryOut (fun m10 => ih m10) c_x1 c9 m5) c_x1 c7 m5)) false)) false) false)) c_x1 m) false)) false
noncomputable def ez_countTo_0 (k : Nat → Bool) (c_x1 : Nat) (c_x2 : Nat) (n : Nat) : Nat → Bool := Nat.rec (motive := fun _ => Nat → Bool) (fun _ => false) (fun _ ih => ez_countTo_0_b k ih c_x1 c_x2) n
theorem sz_countTo_0 {pl sg : Nat → Nat → Int32} (H : zq_H pl sg) {post : St2 → Prop} {k : Nat → Bool} (hk : ∀ (u : St2) (m : Nat), zq_R pl sg m u → k m = true → post u) {x1 : Int32} {c_x1 : Nat} (h_x1 : x1 = nI c_x1) {x2 : Int32} {c_x2 : Nat} (h_x2 : x2 = nI c_x2) : ∀ (n : Nat) (m : Nat) (f0_first : Int32) (f0_waiting : Int32) (f0_holder : Int32) (f0_wrong : Int32) (a1 : Nat → Int32) (a2 : Nat → Int32) (a3 : Nat → Int32) (a4 : Nat → Int32) (a5 : Nat → Int32) (a6 : Nat → Int32) (a7 : Nat → Int32) (a8 : Nat → Int32) (a9 : Nat → Int32) (a10 : Nat → Int32) (a11 : Nat → Int32) (a12 : Nat → Int32) (a13 : Nat → Int32) (a14 : Nat → Int32) (a15 : Nat → Int32) (a16 : Nat → Int32) (a17 : Nat → Int32), zq_R pl sg m (f0_first, f0_waiting, f0_holder, f0_wrong, a1, a2, a3, a4, a5, a6, a7, a8, a9, a10, a11, a12, a13, a14, a15, a16, a17) → ez_countTo_0 k c_x1 c_x2 n m = true → wX_countTo_0 post x1 x2 n f0_first f0_waiting f0_holder f0_wrong a1 a2 a3 a4 a5 a6 a7 a8 a9 a10 a11 a12 a13 a14 a15 a16 a17 := by
  intro n
  induction n with
  | zero =>
    intro m f0_first f0_waiting f0_holder f0_wrong a1 a2 a3 a4 a5 a6 a7 a8 a9 a10 a11 a12 a13 a14 a15 a16 a17 hR h
    exact zq_ff h
  | succ n ih =>
    intro m f0_first f0_waiting f0_holder f0_wrong a1 a2 a3 a4 a5 a6 a7 a8 a9 a10 a11 a12 a13 a14 a15 a16 a17 hR h
    have h : ez_countTo_0_b k (ez_countTo_0 k c_x1 c_x2 n) c_x1 c_x2 m = true := h
    unfold ez_countTo_0_b at h
    unfold wX_countTo_0
    refine zq_vi h_x1 h (fun q1 h => ?_)
    refine zq_br (zq_cle h_x2 (zq_g11 hR h_x1 q1)) h (fun h => ?_) (fun h => ?_)
    · exact hk _ _ hR h
    · refine zq_vi h_x1 h (fun q2 h => ?_)
      refine sz_lastOf H ?_ h_x1 hR h
      intro r_4 c3 hc3 h
      refine zq_br (zq_cle hc3 (zq_g11 hR h_x1 q2)) h (fun h => ?_) (fun h => ?_)
      · exact hk _ _ hR h
      · refine zq_vi h_x1 h (fun q4 h => ?_)
        refine zq_st11 hR h_x1 (zq_xad (zq_g11 hR h_x1 q4) (rfl : (1 : Int32) = nI 1)) h (fun a11_8 m5 hR h => ?_)
        refine zq_vi h_x1 h (fun q6 h => ?_)
        obtain ⟨c7, ec7, h⟩ := zq_fo_e h
        have hf8 := zq_tr (zq_g11 hR h_x1 q6) ec7
        refine sz_cellOf H ?_ h_x1 hf8 hR h
        intro r_10 c9 hc9 h
        refine sz_carryOut H ?_ h_x1 hc9 hR h
        intro u m10 hR h
        obtain ⟨f0_first_12, f0_waiting_13, f0_holder_14, f0_wrong_15, am491_18, am492_21, am493_24, am494_27, am495_30, am496_33, am497_36, am498_39, am499_42, am4910_45, am4911_48, am4912_51, am4913_54, am4914_57, am4915_60, am4916_63, am4917_66⟩ := u
        exact ih _ _ _ _ _ _ _ _ _ _ _ _ _ _ _ _ _ _ _ _ _ _ hR h
noncomputable def ez_countTo (k : Nat → Bool) (c_p0 : Nat) (c_p1 : Nat) (m : Nat) : Bool := ez_countTo_0 k c_p0 c_p1 300 m
theorem sz_countTo {pl sg : Nat → Nat → Int32} (H : zq_H pl sg) {post : St2 → Prop} {k : Nat → Bool} (hk : ∀ (u : St2) (m : Nat), zq_R pl sg m u → k m = true → post u) {p0 : Int32} {c_p0 : Nat} (h_p0 : p0 = nI c_p0) {p1 : Int32} {c_p1 : Nat} (h_p1 : p1 = nI c_p1) {u : St2} {m : Nat} (hR : zq_R pl sg m u) (h : ez_countTo k c_p0 c_p1 m = true) : wpX_countTo post u p0 p1 := by
  obtain ⟨f0_first, f0_waiting, f0_holder, f0_wrong, a1, a2, a3, a4, a5, a6, a7, a8, a9, a10, a11, a12, a13, a14, a15, a16, a17⟩ := u
  unfold wpX_countTo
  unfold ez_countTo at h
  exact ⟨300, sz_countTo_0 H hk h_p0 h_p1 300 _ _ _ _ _ _ _ _ _ _ _ _ _ _ _ _ _ _ _ _ _ _ hR h⟩
noncomputable def ez_countMost_28_b (k : Nat → Bool) (kJ12 : Nat → Nat → Bool) (ih : Nat → Nat → Nat → Bool) (c_x1 : Nat) (c_x2 : Nat) (c_x3 : Nat) (c_x4 : Nat) (c_x5 : Nat) (m : Nat) : Bool := zq_bc (zq_le 5 c_x5) (ez_termAt (fun c1 => zq_bc (zq_bl c_x1 5) (zq_bc (zq_eq c1 (zq_rd m (Nat.add 19 c_x1))) (ez_isMost (fun c3 => zq_bc (zq_eq c3 0) (zq_fo (zq_ad c_x3 4294967295) (fun c4 => kJ12 c4 m)) (ez_countTo (fun m5 => zq_fo (zq_ad c_x3 4294967295) (fun c6 => kJ12 c6 m5)) c_x1 c_x3 m)) c_x4 c_x2) (zq_fo (zq_ad c_x3 4294967295) (fun c7 => kJ12 c7 m))) false) c_x1 c_x3 m) (zq_fo (zq_ad (zq_ml 5 c_x1) c_x5) (fun c8 => zq_bc (zq_bl c8 25) (zq_bc (zq_lt (zq_rd m (Nat.add 89 c8)) c_x3) (zq_fo (Nat.lor c_x4 0) (fun c12 => zq_fo (zq_ad c_x5 1) (fun c13 => ih c12 c13 m))) (zq_fo (Nat.lor c_x4 (zq_sh c_x5)) (fun c14 => zq_fo (zq_ad c_x5 1) (fun c15 => ih c14 c15 m)))) false))
noncomputable def ez_countMost_28 (k : Nat → Bool) (kJ12 : Nat → Nat → Bool) (c_x1 : Nat) (c_x2 : Nat) (c_x3 : Nat) (n : Nat) : Nat → Nat → Nat → Bool := Nat.rec (motive := fun _ => Nat → Nat → Nat → Bool) (fun _ _ _ => false) (fun _ ih => ez_countMost_28_b k kJ12 ih c_x1 c_x2 c_x3) n
theorem sz_countMost_28 {pl sg : Nat → Nat → Int32} (H : zq_H pl sg) {post : St2 → Prop} {k : Nat → Bool} (hk : ∀ (u : St2) (m : Nat), zq_R pl sg m u → k m = true → post u) {f0_first : Int32} {f0_waiting : Int32} {f0_holder : Int32} {f0_wrong : Int32} {a1 : Nat → Int32} {a2 : Nat → Int32} {a3 : Nat → Int32} {a4 : Nat → Int32} {a5 : Nat → Int32} {a6 : Nat → Int32} {a7 : Nat → Int32} {a8 : Nat → Int32} {a9 : Nat → Int32} {a10 : Nat → Int32} {a11 : Nat → Int32} {a12 : Nat → Int32} {a13 : Nat → Int32} {a14 : Nat → Int32} {a15 : Nat → Int32} {a16 : Nat → Int32} {a17 : Nat → Int32} {J12 : Int32 → Int32 → Int32 → Int32 → Int32 → (Nat → Int32) → (Nat → Int32) → (Nat → Int32) → (Nat → Int32) → (Nat → Int32) → (Nat → Int32) → (Nat → Int32) → (Nat → Int32) → (Nat → Int32) → (Nat → Int32) → (Nat → Int32) → (Nat → Int32) → (Nat → Int32) → (Nat → Int32) → (Nat → Int32) → (Nat → Int32) → (Nat → Int32) → Prop} {kJ12 : Nat → Nat → Bool} (hJ12 : ∀ (x3_x : Int32) (x3_c : Nat) (m : Nat) (j_f0_first : Int32) (j_f0_waiting : Int32) (j_f0_holder : Int32) (j_f0_wrong : Int32) (j_a1 : Nat → Int32) (j_a2 : Nat → Int32) (j_a3 : Nat → Int32) (j_a4 : Nat → Int32) (j_a5 : Nat → Int32) (j_a6 : Nat → Int32) (j_a7 : Nat → Int32) (j_a8 : Nat → Int32) (j_a9 : Nat → Int32) (j_a10 : Nat → Int32) (j_a11 : Nat → Int32) (j_a12 : Nat → Int32) (j_a13 : Nat → Int32) (j_a14 : Nat → Int32) (j_a15 : Nat → Int32) (j_a16 : Nat → Int32) (j_a17 : Nat → Int32), x3_x = nI x3_c → zq_R pl sg m (j_f0_first, j_f0_waiting, j_f0_holder, j_f0_wrong, j_a1, j_a2, j_a3, j_a4, j_a5, j_a6, j_a7, j_a8, j_a9, j_a10, j_a11, j_a12, j_a13, j_a14, j_a15, j_a16, j_a17) → kJ12 x3_c m = true → J12 x3_x j_f0_first j_f0_waiting j_f0_holder j_f0_wrong j_a1 j_a2 j_a3 j_a4 j_a5 j_a6 j_a7 j_a8 j_a9 j_a10 j_a11 j_a12 j_a13 j_a14 j_a15 j_a16 j_a17) {x1 : Int32} {c_x1 : Nat} (h_x1 : x1 = nI c_x1) {x2 : Int32} {c_x2 : Nat} (h_x2 : x2 = nI c_x2) {x3 : Int32} {c_x3 : Nat} (h_x3 : x3 = nI c_x3) : ∀ (n : Nat) (x4 : Int32) (c_x4 : Nat) (x5 : Int32) (c_x5 : Nat) (m : Nat), x4 = nI c_x4 → x5 = nI c_x5 → zq_R pl sg m (f0_first, f0_waiting, f0_holder, f0_wrong, a1, a2, a3, a4, a5, a6, a7, a8, a9, a10, a11, a12, a13, a14, a15, a16, a17) → ez_countMost_28 k kJ12 c_x1 c_x2 c_x3 n c_x4 c_x5 m = true → wX_countMost_28 post J12 x1 x2 x3 f0_first f0_waiting f0_holder f0_wrong a1 a2 a3 a4 a5 a6 a7 a8 a9 a10 a11 a12 a13 a14 a15 a16 a17 n x4 x5 := by
  intro n
  induction n with
  | zero =>
    intro x4 c_x4 x5 c_x5 m h_x4 h_x5 hR h
    exact zq_ff h
  | succ n ih =>
    intro x4 c_x4 x5 c_x5 m h_x4 h_x5 hR h
    have h : ez_countMost_28_b k kJ12 (ez_countMost_28 k kJ12 c_x1 c_x2 c_x3 n) c_x1 c_x2 c_x3 c_x4 c_x5 m = true := h
    unfold ez_countMost_28_b at h
    unfold wX_countMost_28
    refine zq_br (zq_cle (rfl : (5 : Int32) = nI 5) h_x5) h (fun h => ?_) (fun h => ?_)
    · refine sz_termAt H ?_ h_x1 h_x3 hR h
      intro r_6 c1 hc1 h
      refine zq_vi h_x1 h (fun q2 h => ?_)
      refine zq_br (zq_ceq hc1 (zq_g4 hR h_x1 q2)) h (fun h => ?_) (fun h => ?_)
      · refine sz_isMost H ?_ h_x4 h_x2 h
        intro r_10 c3 hc3 h
        refine zq_br (zq_ceq hc3 (rfl : (0 : Int32) = nI 0)) h (fun h => ?_) (fun h => ?_)
        · refine zq_le_t h (zq_xad h_x3 zq_m1) (fun x3_12 c4 hc4 h => ?_)
          exact hJ12 _ _ _ _ _ _ _ _ _ _ _ _ _ _ _ _ _ _ _ _ _ _ _ _ hc4 hR h
        · refine sz_countTo H ?_ h_x1 h_x3 hR h
          intro u m5 hR h
          obtain ⟨f0_first_14, f0_waiting_15, f0_holder_16, f0_wrong_17, am951_20, am952_23, am953_26, am954_29, am955_32, am956_35, am957_38, am958_41, am959_44, am9510_47, am9511_50, am9512_53, am9513_56, am9514_59, am9515_62, am9516_65, am9517_68⟩ := u
          refine zq_le_t h (zq_xad h_x3 zq_m1) (fun x3_69 c6 hc6 h => ?_)
          exact hJ12 _ _ _ _ _ _ _ _ _ _ _ _ _ _ _ _ _ _ _ _ _ _ _ _ hc6 hR h
      · refine zq_le_t h (zq_xad h_x3 zq_m1) (fun x3_9 c7 hc7 h => ?_)
        exact hJ12 _ _ _ _ _ _ _ _ _ _ _ _ _ _ _ _ _ _ _ _ _ _ _ _ hc7 hR h
    · obtain ⟨c8, ec8, h⟩ := zq_fo_e h
      have hf9 := zq_tr (zq_xad (zq_xml (rfl : (5 : Int32) = nI 5) h_x1) h_x5) ec8
      refine zq_vi hf9 h (fun q10 h => ?_)
      have hf11 := zq_tr (zq_xad (zq_xml (rfl : (5 : Int32) = nI 5) h_x1) h_x5) ec8
      refine zq_br (zq_clt (zq_g15 hR hf11 q10) h_x3) h (fun h => ?_) (fun h => ?_)
      · refine zq_le_t h (zq_xor h_x4 (rfl : (0 : Int32) = nI 0)) (fun x4_72 c12 hc12 h => ?_)
        refine zq_le_t h (zq_xad h_x5 (rfl : (1 : Int32) = nI 1)) (fun x5_73 c13 hc13 h => ?_)
        exact ih _ _ _ _ _ hc12 hc13 hR h
      · refine zq_le_t h (zq_xor h_x4 (zq_xsh h_x5)) (fun x4_74 c14 hc14 h => ?_)
        refine zq_le_t h (zq_xad h_x5 (rfl : (1 : Int32) = nI 1)) (fun x5_75 c15 hc15 h => ?_)
        exact ih _ _ _ _ _ hc14 hc15 hR h
noncomputable def ez_countMost_12_b (k : Nat → Bool) (ih : Nat → Nat → Bool) (c_x1 : Nat) (c_x2 : Nat) (c_x3 : Nat) (m : Nat) : Bool := zq_bc (zq_bl c_x1 5) (zq_bc (zq_le c_x3 (zq_rd m (Nat.add 49 c_x1))) (k m) (ez_countMost_28 k ih c_x1 c_x2 c_x3 300 0 0 m)) false
noncomputable def ez_countMost_12 (k : Nat → Bool) (c_x1 : Nat) (c_x2 : Nat) (n : Nat) : Nat → Nat → Bool := Nat.rec (motive := fun _ => Nat → Nat → Bool) (fun _ _ => false) (fun _ ih => ez_countMost_12_b k ih c_x1 c_x2) n
theorem sz_countMost_12 {pl sg : Nat → Nat → Int32} (H : zq_H pl sg) {post : St2 → Prop} {k : Nat → Bool} (hk : ∀ (u : St2) (m : Nat), zq_R pl sg m u → k m = true → post u) {x1 : Int32} {c_x1 : Nat} (h_x1 : x1 = nI c_x1) {x2 : Int32} {c_x2 : Nat} (h_x2 : x2 = nI c_x2) : ∀ (n : Nat) (x3 : Int32) (c_x3 : Nat) (m : Nat) (f0_first : Int32) (f0_waiting : Int32) (f0_holder : Int32) (f0_wrong : Int32) (a1 : Nat → Int32) (a2 : Nat → Int32) (a3 : Nat → Int32) (a4 : Nat → Int32) (a5 : Nat → Int32) (a6 : Nat → Int32) (a7 : Nat → Int32) (a8 : Nat → Int32) (a9 : Nat → Int32) (a10 : Nat → Int32) (a11 : Nat → Int32) (a12 : Nat → Int32) (a13 : Nat → Int32) (a14 : Nat → Int32) (a15 : Nat → Int32) (a16 : Nat → Int32) (a17 : Nat → Int32), x3 = nI c_x3 → zq_R pl sg m (f0_first, f0_waiting, f0_holder, f0_wrong, a1, a2, a3, a4, a5, a6, a7, a8, a9, a10, a11, a12, a13, a14, a15, a16, a17) → ez_countMost_12 k c_x1 c_x2 n c_x3 m = true → wX_countMost_12 post x1 x2 n x3 f0_first f0_waiting f0_holder f0_wrong a1 a2 a3 a4 a5 a6 a7 a8 a9 a10 a11 a12 a13 a14 a15 a16 a17 := by
  intro n
  induction n with
  | zero =>
    intro x3 c_x3 m f0_first f0_waiting f0_holder f0_wrong a1 a2 a3 a4 a5 a6 a7 a8 a9 a10 a11 a12 a13 a14 a15 a16 a17 h_x3 hR h
    exact zq_ff h
  | succ n ih =>
    intro x3 c_x3 m f0_first f0_waiting f0_holder f0_wrong a1 a2 a3 a4 a5 a6 a7 a8 a9 a10 a11 a12 a13 a14 a15 a16 a17 h_x3 hR h
    have h : ez_countMost_12_b k (ez_countMost_12 k c_x1 c_x2 n) c_x1 c_x2 c_x3 m = true := h
    unfold ez_countMost_12_b at h
    unfold wX_countMost_12
    refine zq_vi h_x1 h (fun q1 h => ?_)
    refine zq_br (zq_cle h_x3 (zq_g11 hR h_x1 q1)) h (fun h => ?_) (fun h => ?_)
    · exact hk _ _ hR h
    · exact ⟨300, sz_countMost_28 H hk ih h_x1 h_x2 h_x3 300 _ _ _ _ _ (rfl : (0 : Int32) = nI 0) (rfl : (0 : Int32) = nI 0) hR h⟩
noncomputable def ez_countMost (k : Nat → Bool) (c_p0 : Nat) (m : Nat) : Bool := ez_membersFor (fun c1 => ez_lastOf (fun c2 => ez_countMost_12 k c_p0 c1 300 c2 m) c_p0 m) c_p0 m
theorem sz_countMost {pl sg : Nat → Nat → Int32} (H : zq_H pl sg) {post : St2 → Prop} {k : Nat → Bool} (hk : ∀ (u : St2) (m : Nat), zq_R pl sg m u → k m = true → post u) {p0 : Int32} {c_p0 : Nat} (h_p0 : p0 = nI c_p0) {u : St2} {m : Nat} (hR : zq_R pl sg m u) (h : ez_countMost k c_p0 m = true) : wpX_countMost post u p0 := by
  obtain ⟨f0_first, f0_waiting, f0_holder, f0_wrong, a1, a2, a3, a4, a5, a6, a7, a8, a9, a10, a11, a12, a13, a14, a15, a16, a17⟩ := u
  unfold wpX_countMost
  unfold ez_countMost at h
  refine sz_membersFor H ?_ h_p0 hR h
  intro r_1 c1 hc1 h
  refine sz_lastOf H ?_ h_p0 hR h
  intro r_2 c2 hc2 h
  exact ⟨300, sz_countMost_12 H hk h_p0 hc1 300 _ _ _ _ _ _ _ _ _ _ _ _ _ _ _ _ _ _ _ _ _ _ _ _ hc2 hR h⟩
noncomputable def ez_post_36 (k : Nat → Nat → Bool) (c_x1 : Nat) (c_x2 : Nat) (c_x3 : Nat) (c_x4 : Nat) (c_x5 : Nat) (c_x6 : Nat) (c_x7 : Nat) (m : Nat) : Bool := zq_bc (zq_bl (Nat.mod c_x7 16) 8) (zq_bc (zq_bl c_x7 1024) (zq_fo (zq_wr m (Nat.add 203 (Nat.add (Nat.mul 9 (Nat.div c_x7 16)) (Nat.mod c_x7 16))) c_x1) (fun m2 => zq_fo (zq_ad c_x7 1) (fun c3 => zq_bc (zq_bl (Nat.mod c3 16) 8) (zq_bc (zq_bl c3 1024) (zq_fo (zq_wr m2 (Nat.add 203 (Nat.add (Nat.mul 9 (Nat.div c3 16)) (Nat.mod c3 16))) c_x2) (fun m6 => zq_fo (zq_ad c_x7 2) (fun c7 => zq_bc (zq_bl (Nat.mod c7 16) 8) (zq_bc (zq_bl c7 1024) (zq_fo (zq_wr m6 (Nat.add 203 (Nat.add (Nat.mul 9 (Nat.div c7 16)) (Nat.mod c7 16))) c_x3) (fun m10 => zq_bc (zq_bl c_x2 5) (zq_fo (zq_ad c_x7 3) (fun c12 => zq_fo (zq_rd m10 (Nat.add 19 c_x2)) (fun c14 => zq_bc (zq_bl (Nat.mod c12 16) 8) (zq_bc (zq_bl c12 1024) (zq_fo (zq_wr m10 (Nat.add 203 (Nat.add (Nat.mul 9 (Nat.div c12 16)) (Nat.mod c12 16))) c14) (fun m17 => zq_fo (zq_ad c_x7 4) (fun c18 => zq_bc (zq_bl (Nat.mod c18 16) 8) (zq_bc (zq_bl c18 1024) (zq_fo (zq_wr m17 (Nat.add 203 (Nat.add (Nat.mul 9 (Nat.div c18 16)) (Nat.mod c18 16))) c_x4) (fun m21 => zq_fo (zq_ad c_x7 5) (fun c22 => zq_bc (zq_bl (Nat.mod c22 16) 8) (zq_bc (zq_bl c22 1024) (zq_fo (zq_wr m21 (Nat.add 203 (Nat.add (Nat.mul 9 (Nat.div c22 16)) (Nat.mod c22 16))) c_x5) (fun m25 => zq_fo (zq_ad c_x7 6) (fun c26 => zq_bc (zq_bl (Nat.mod c26 16) 8) (zq_bc (zq_bl c26 1024) (zq_fo (zq_wr m25 (Nat.add 203 (Nat.add (Nat.mul 9 (Nat.div c26 16)) (Nat.mod c26 16))) c_x6) (fun m29 => zq_fo (zq_ad c_x7 7) (fun c30 => zq_bc (zq_bl (Nat.mod c30 16) 8) (zq_bc (zq_bl c30 1024) (zq_fo (zq_wr m29 (Nat.add 203 (Nat.add (Nat.mul 9 (Nat.div c30 16)) (Nat.mod c30 16))) 0) (fun m33 => k c_x7 m33)) false) false))) false) false))) false) false))) false) false))) false) false))) false)) false) false))) false) false))) false) false
theorem sz_post_36 {pl sg : Nat → Nat → Int32} (H : zq_H pl sg) {post : Int32 → St2 → Prop} {k : Nat → Nat → Bool} (hk : ∀ (x : Int32) (c : Nat) (u : St2) (m : Nat), x = nI c → zq_R pl sg m u → k c m = true → post x u) {f0_first : Int32} {f0_waiting : Int32} {f0_holder : Int32} {f0_wrong : Int32} {a1 : Nat → Int32} {a2 : Nat → Int32} {a3 : Nat → Int32} {a4 : Nat → Int32} {a5 : Nat → Int32} {a6 : Nat → Int32} {a7 : Nat → Int32} {a8 : Nat → Int32} {a9 : Nat → Int32} {a10 : Nat → Int32} {a11 : Nat → Int32} {a12 : Nat → Int32} {a13 : Nat → Int32} {a14 : Nat → Int32} {a15 : Nat → Int32} {a16 : Nat → Int32} {a17 : Nat → Int32} {x1 : Int32} {c_x1 : Nat} (h_x1 : x1 = nI c_x1) {x2 : Int32} {c_x2 : Nat} (h_x2 : x2 = nI c_x2) {x3 : Int32} {c_x3 : Nat} (h_x3 : x3 = nI c_x3) {x4 : Int32} {c_x4 : Nat} (h_x4 : x4 = nI c_x4) {x5 : Int32} {c_x5 : Nat} (h_x5 : x5 = nI c_x5) {x6 : Int32} {c_x6 : Nat} (h_x6 : x6 = nI c_x6) {x7 : Int32} {c_x7 : Nat} (h_x7 : x7 = nI c_x7) {m : Nat} (hR : zq_R pl sg m (f0_first, f0_waiting, f0_holder, f0_wrong, a1, a2, a3, a4, a5, a6, a7, a8, a9, a10, a11, a12, a13, a14, a15, a16, a17)) (h : ez_post_36 k c_x1 c_x2 c_x3 c_x4 c_x5 c_x6 c_x7 m = true) : wX_post_36 post x1 x2 x3 x4 x5 x6 x7 f0_first f0_waiting f0_holder f0_wrong a1 a2 a3 a4 a5 a6 a7 a8 a9 a10 a11 a12 a13 a14 a15 a16 a17 := by
  unfold wX_post_36
  unfold ez_post_36 at h
  obtain ⟨q1, h⟩ := zq_bc_s h
  refine zq_st16 hR h_x7 h_x1 q1 h (fun a16_5 m2 hR h => ?_)
  obtain ⟨c3, ec3, h⟩ := zq_fo_e h
  have hf4 := zq_tr (zq_xad h_x7 (rfl : (1 : Int32) = nI 1)) ec3
  obtain ⟨q5, h⟩ := zq_bc_s h
  refine zq_st16 hR hf4 h_x2 q5 h (fun a16_7 m6 hR h => ?_)
  obtain ⟨c7, ec7, h⟩ := zq_fo_e h
  have hf8 := zq_tr (zq_xad h_x7 (rfl : (2 : Int32) = nI 2)) ec7
  obtain ⟨q9, h⟩ := zq_bc_s h
  refine zq_st16 hR hf8 h_x3 q9 h (fun a16_9 m10 hR h => ?_)
  refine zq_vi h_x2 h (fun q11 h => ?_)
  obtain ⟨c12, ec12, h⟩ := zq_fo_e h
  have hf13 := zq_tr (zq_xad h_x7 (rfl : (3 : Int32) = nI 3)) ec12
  obtain ⟨c14, ec14, h⟩ := zq_fo_e h
  have hf15 := zq_tr (zq_g4 hR h_x2 q11) ec14
  obtain ⟨q16, h⟩ := zq_bc_s h
  refine zq_st16 hR hf13 hf15 q16 h (fun a16_12 m17 hR h => ?_)
  obtain ⟨c18, ec18, h⟩ := zq_fo_e h
  have hf19 := zq_tr (zq_xad h_x7 (rfl : (4 : Int32) = nI 4)) ec18
  obtain ⟨q20, h⟩ := zq_bc_s h
  refine zq_st16 hR hf19 h_x4 q20 h (fun a16_14 m21 hR h => ?_)
  obtain ⟨c22, ec22, h⟩ := zq_fo_e h
  have hf23 := zq_tr (zq_xad h_x7 (rfl : (5 : Int32) = nI 5)) ec22
  obtain ⟨q24, h⟩ := zq_bc_s h
  refine zq_st16 hR hf23 h_x5 q24 h (fun a16_16 m25 hR h => ?_)
  obtain ⟨c26, ec26, h⟩ := zq_fo_e h
  have hf27 := zq_tr (zq_xad h_x7 (rfl : (6 : Int32) = nI 6)) ec26
  obtain ⟨q28, h⟩ := zq_bc_s h
  refine zq_st16 hR hf27 h_x6 q28 h (fun a16_18 m29 hR h => ?_)
  obtain ⟨c30, ec30, h⟩ := zq_fo_e h
  have hf31 := zq_tr (zq_xad h_x7 (rfl : (7 : Int32) = nI 7)) ec30
  obtain ⟨q32, h⟩ := zq_bc_s h
  refine zq_st16 hR hf31 (rfl : (0 : Int32) = nI 0) q32 h (fun a16_20 m33 hR h => ?_)
  exact hk _ _ _ _ h_x7 hR h
noncomputable def ez_post (k : Nat → Nat → Bool) (c_p0 : Nat) (c_p1 : Nat) (c_p2 : Nat) (c_p3 : Nat) (c_p4 : Nat) (c_p5 : Nat) (m : Nat) : Bool := zq_fo (zq_ad (zq_rd m 0) (zq_rd m 1)) (fun c1 => zq_bc (zq_bl c1 2147483648) (zq_fo (zq_ml 16 (Nat.mod c1 64)) (fun c4 => zq_bc (zq_le 64 (zq_rd m 1)) (ez_post_36 k c_p0 c_p1 c_p2 c_p3 c_p4 c_p5 c4 m) (zq_fo (zq_ad (zq_rd m 1) 1) (fun c5 => zq_fo (zq_wr m 1 c5) (fun m6 => ez_post_36 k c_p0 c_p1 c_p2 c_p3 c_p4 c_p5 c4 m6))))) false)
theorem sz_post {pl sg : Nat → Nat → Int32} (H : zq_H pl sg) {post : Int32 → St2 → Prop} {k : Nat → Nat → Bool} (hk : ∀ (x : Int32) (c : Nat) (u : St2) (m : Nat), x = nI c → zq_R pl sg m u → k c m = true → post x u) {p0 : Int32} {c_p0 : Nat} (h_p0 : p0 = nI c_p0) {p1 : Int32} {c_p1 : Nat} (h_p1 : p1 = nI c_p1) {p2 : Int32} {c_p2 : Nat} (h_p2 : p2 = nI c_p2) {p3 : Int32} {c_p3 : Nat} (h_p3 : p3 = nI c_p3) {p4 : Int32} {c_p4 : Nat} (h_p4 : p4 = nI c_p4) {p5 : Int32} {c_p5 : Nat} (h_p5 : p5 = nI c_p5) {u : St2} {m : Nat} (hR : zq_R pl sg m u) (h : ez_post k c_p0 c_p1 c_p2 c_p3 c_p4 c_p5 m = true) : wpX_post post u p0 p1 p2 p3 p4 p5 := by
  obtain ⟨f0_first, f0_waiting, f0_holder, f0_wrong, a1, a2, a3, a4, a5, a6, a7, a8, a9, a10, a11, a12, a13, a14, a15, a16, a17⟩ := u
  unfold wpX_post
  unfold ez_post at h
  refine ⟨by decide, ?_⟩
  obtain ⟨c1, ec1, h⟩ := zq_fo_e h
  have hf2 := zq_tr (zq_xad (zq_g_f1 hR) (zq_g_f2 hR)) ec1
  obtain ⟨q3, h⟩ := zq_bc_s h
  refine zq_le_t h (zq_xml (rfl : (16 : Int32) = nI 16) (zq_xrem 64 hf2 q3)) (fun x7_2 c4 hc4 h => ?_)
  refine zq_br (zq_cle (rfl : (64 : Int32) = nI 64) (zq_g_f2 hR)) h (fun h => ?_) (fun h => ?_)
  · exact sz_post_36 H hk h_p0 h_p1 h_p2 h_p3 h_p4 h_p5 hc4 hR h
  · refine zq_le_t h (zq_xad (zq_g_f2 hR) (rfl : (1 : Int32) = nI 1)) (fun f_21 c5 hc5 h => ?_)
    refine zq_sf2 hR hc5 h (fun m6 hR h => ?_)
    exact sz_post_36 H hk h_p0 h_p1 h_p2 h_p3 h_p4 h_p5 hc4 hR h
end
section
/-- i cells from sb on of src were copied to db on -/
def zq_cop (src : Nat → Int32) (sb : Nat) (d : Nat → Int32) (db i : Nat) (s : Nat → Int32) : Prop := ∀ j, s j = if db ≤ j ∧ j < db + i then src (sb + (j - db)) else d j
theorem zq_cop0 {src d : Nat → Int32} {sb db : Nat} : zq_cop src sb d db 0 d := by
  intro j
  rw [if_neg (by omega)]
theorem zq_cop1 {src d s : Nat → Int32} {sb db i p : Nat} {v : Int32} (h : zq_cop src sb d db i s) (hp : p = db + i) (hv : v = src (sb + i)) : zq_cop src sb d db (i + 1) (upd s p v) := by
  intro j
  by_cases e : j = p
  · have e2 : j - db = i := by omega
    rw [if_pos (by omega), e2, e, pk_us, hv]
  · rw [pk_un e, h j]
    by_cases g : db ≤ j ∧ j < db + i
    · rw [if_pos g, if_pos (by omega)]
    · rw [if_neg g, if_neg (by omega)]
theorem zq_copA {src d s : Nat → Int32} {sb db n : Nat} (h : zq_cop src sb d db n s) {j : Nat} (hj : j < n) : s (db + j) = src (sb + j) := by
  rw [h, if_pos (by omega)]
  have e : db + j - db = j := by omega
  rw [e]
theorem zq_copB {src d s : Nat → Int32} {sb db n : Nat} (h : zq_cop src sb d db n s) {j : Nat} (hj : j < db ∨ db + n ≤ j) : s j = d j := by
  rw [h, if_neg (by omega)]
noncomputable def ez_sendTo_105 (k : Nat → Bool) (c5 c6 m : Nat) : Bool :=
  zq_bc (zq_bl c5 1024) (zq_bc (Nat.beq (Nat.mod c5 16) 0) (zq_bc (zq_bl c6 554) (zq_bc (Nat.beq (Nat.mod c6 7) 0) (zq_fo (zq_wr m (Nat.add 203 (Nat.add (Nat.mul 9 (Nat.div c5 16)) 8)) (zq_rd m (Nat.add 123 (Nat.div c6 7)))) k) false) false) false) false
theorem sz_sendTo_105 {pl sg : Nat → Nat → Int32} (_H : zq_H pl sg) {post : St2 → Prop} {k : Nat → Bool} (hk : ∀ (u : St2) (m : Nat), zq_R pl sg m u → k m = true → post u) {x5 x6 : Int32} {c5 c6 : Nat} (h5 : x5 = nI c5) (h6 : x6 = nI c6) {m : Nat} {f1 f2 f3 f4 : Int32} {a1 a2 a3 a4 a5 a6 a7 a8 a9 a10 a11 a12 a13 a14 a15 a16 a17 : Nat → Int32} (hR : zq_R pl sg m (f1, f2, f3, f4, a1, a2, a3, a4, a5, a6, a7, a8, a9, a10, a11, a12, a13, a14, a15, a16, a17)) (h : ez_sendTo_105 k c5 c6 m = true) : ∃ n, wX_sendTo_105 post x5 x6 f1 f2 f3 f4 n 0 a1 a2 a3 a4 a5 a6 a7 a8 a9 a10 a11 a12 a13 a14 a15 a16 a17 := by
  unfold ez_sendTo_105 at h
  obtain ⟨q1, h⟩ := zq_bc_s h
  obtain ⟨q2, h⟩ := zq_bc_s h
  obtain ⟨q3, h⟩ := zq_bc_s h
  obtain ⟨q4, h⟩ := zq_bc_s h
  obtain ⟨m2, hm, h⟩ := zq_fo_e h
  have q1 := zq_bl_s q1
  have q2 : c5 % 16 = 0 := zq_beq_s q2
  have q3 := zq_bl_s q3
  have q4 : c6 % 7 = 0 := zq_beq_s q4
  have hm : m2 = zq_wr m (203 + (9 * (c5 / 16) + 8)) (zq_rd m (123 + c6 / 7)) := hm
  refine pk_loop (fun n i s => wX_sendTo_105 post x5 x6 f1 f2 f3 f4 n (nI i) a1 a2 a3 a4 a5 a6 a7 a8 a9 a10 a11 a12 a13 a14 a15 s a17) (fun i s => zq_cop a10 c6 a16 (c5 + 8) i s) 7 0 a16 (by decide) zq_cop0 ?_ ?_
  · intro n s hI
    unfold wX_sendTo_105
    refine pk_le 7 7 (fun _ => ?_) (fun z => absurd z (by decide))
    refine hk _ _ (zq_x16 hR hm (by omega) (by omega) ?_) h
    intro sl c hs hc
    have hlt := zq_rd_lt m (123 + c6 / 7)
    have e9 : zq_rd m2 (203 + (9 * (c5 / 16) + 8)) = zq_rd m (123 + c6 / 7) := by
      rw [zq_rw_e hm]
      omega
    unfold zq_qc
    by_cases h8 : c < 8
    · rw [if_pos h8, zq_rw_n hm (j := 203 + 9 * sl + c) (by omega), zq_copB hI (by omega), zq_p16 hR sl c hs hc]
      unfold zq_qc
      rw [if_pos h8]
    · rw [if_neg h8]
      by_cases es : sl = c5 / 16
      · have e1 : 203 + 9 * sl + 8 = 203 + (9 * (c5 / 16) + 8) := by omega
        have e2 : 16 * sl + c = c5 + 8 + (c - 8) := by omega
        rw [e1, e9, e2, zq_copA hI (by omega)]
        have e3 := zq_p10 hR (c6 / 7) (c - 8) (by omega) (by omega)
        have e4 : 7 * (c6 / 7) + (c - 8) = c6 + (c - 8) := by omega
        rw [e4] at e3
        exact e3
      · rw [zq_rw_n hm (j := 203 + 9 * sl + 8) (by omega), zq_copB hI (by omega), zq_p16 hR sl c hs hc]
        unfold zq_qc
        rw [if_neg h8]
  · intro n i s hi hI hw
    unfold wX_sendTo_105
    refine pk_le 7 i (fun z => absurd z (by omega)) (fun _ => ?_)
    have x1 : x6 + nI i = nI (c6 + i) := by rw [h6, nI_add]
    have x2 : x5 + 8 + nI i = nI (c5 + 8 + i) := by
      rw [h5]
      show nI c5 + nI 8 + nI i = _
      rw [nI_add, nI_add]
    rw [x1, x2, nI_clamp (show c5 + 8 + i < 2 ^ 31 by omega), nI_clamp (show c6 + i < 2 ^ 31 by omega)]
    exact ⟨vp_in_nI (by omega) (by decide), vp_in_nI (by omega) (by decide), nm_e (nm_r (nI_1 i) (hw _ (zq_cop1 hI rfl rfl)))⟩
noncomputable def ez_takeEntry_51 (k : Nat → Bool) (c3 m : Nat) : Bool :=
  zq_bc (zq_bl c3 554) (zq_bc (Nat.beq (Nat.mod c3 7) 0) (zq_fo (zq_wr m (Nat.add 123 (Nat.div c3 7)) (zq_rd m 122)) k) false) false
theorem sz_takeEntry_51 {pl sg : Nat → Nat → Int32} (_H : zq_H pl sg) {post : St2 → Prop} {k : Nat → Bool} (hk : ∀ (u : St2) (m : Nat), zq_R pl sg m u → k m = true → post u) {x3 : Int32} {c3 : Nat} (h3 : x3 = nI c3) {m : Nat} {f1 f2 f3 f4 : Int32} {a1 a2 a3 a4 a5 a6 a7 a8 a9 a10 a11 a12 a13 a14 a15 a16 a17 : Nat → Int32} (hR : zq_R pl sg m (f1, f2, f3, f4, a1, a2, a3, a4, a5, a6, a7, a8, a9, a10, a11, a12, a13, a14, a15, a16, a17)) (h : ez_takeEntry_51 k c3 m = true) : ∃ n, wX_takeEntry_51 post x3 f1 f2 f3 f4 n 0 a1 a2 a3 a4 a5 a6 a7 a8 a9 a10 a11 a12 a13 a14 a15 a16 a17 := by
  unfold ez_takeEntry_51 at h
  obtain ⟨q1, h⟩ := zq_bc_s h
  obtain ⟨q2, h⟩ := zq_bc_s h
  obtain ⟨m2, hm, h⟩ := zq_fo_e h
  have q1 := zq_bl_s q1
  have q2 : c3 % 7 = 0 := zq_beq_s q2
  have hm : m2 = zq_wr m (123 + c3 / 7) (zq_rd m 122) := hm
  refine pk_loop (fun n i s => wX_takeEntry_51 post x3 f1 f2 f3 f4 n (nI i) a1 a2 a3 a4 a5 a6 a7 a8 a9 s a11 a12 a13 a14 a15 a16 a17) (fun i s => zq_cop a17 8 a10 c3 i s) 7 0 a10 (by decide) zq_cop0 ?_ ?_
  · intro n s hI
    unfold wX_takeEntry_51
    refine pk_le 7 7 (fun _ => ?_) (fun z => absurd z (by decide))
    refine hk _ _ (zq_x10 hR hm (by omega) (by omega) ?_) h
    intro e j he hj
    have hlt := zq_rd_lt m 122
    by_cases es : e = c3 / 7
    · have e9 : zq_rd m2 (123 + e) = zq_rd m 122 := by
        rw [es, zq_rw_e hm]
        omega
      have e2 : 7 * e + j = c3 + j := by omega
      rw [e9, e2, zq_copA hI hj]
      have e3 := zq_p17 hR (8 + j) (by omega)
      rw [e3]
      unfold zq_qc
      rw [if_neg (by omega)]
      have e4 : 8 + j - 8 = j := by omega
      rw [e4]
    · rw [zq_rw_n hm (j := 123 + e) (by omega), zq_copB hI (by omega)]
      exact zq_p10 hR e j he hj
  · intro n i s hi hI hw
    unfold wX_takeEntry_51
    refine pk_le 7 i (fun z => absurd z (by omega)) (fun _ => ?_)
    have x1 : (8 : Int32) + nI i = nI (8 + i) := nI_add 8 i
    have x2 : x3 + nI i = nI (c3 + i) := by rw [h3, nI_add]
    rw [x1, x2, nI_clamp (show c3 + i < 2 ^ 31 by omega), nI_clamp (show 8 + i < 2 ^ 31 by omega)]
    exact ⟨vp_in_nI (by omega) (by decide), vp_in_nI (by omega) (by decide), nm_e (nm_r (nI_1 i) (hw _ (zq_cop1 hI rfl rfl)))⟩
noncomputable def ez_sendTo (k : Nat → Bool) (c_p0 : Nat) (c_p1 : Nat) (m : Nat) : Bool := zq_fo (zq_ad (zq_ml 5 c_p0) c_p1) (fun c1 => zq_bc (zq_bl c1 25) (zq_fo (zq_rd m (Nat.add 64 c1)) (fun c5 => zq_bc (zq_bl c_p0 5) (zq_bc (zq_lt (zq_rd m (Nat.add 34 c_p0)) c5) (zq_fo (zq_sb c5 1) (fun c7 => ez_termAt (fun c9 => zq_bc (zq_bl c_p0 5) (zq_fo (zq_rd m (Nat.add 49 c_p0)) (fun c12 => ez_post (fun c14 m15 => ez_lastOf (fun c16 => zq_bc (zq_lt c16 c5) (k m15) (ez_cellOf (fun c17 => zq_fo (zq_ad c14 7) (fun c18 => zq_bc (zq_bl (Nat.mod c18 16) 8) (zq_bc (zq_bl c18 1024) (zq_fo (zq_wr m15 (Nat.add 203 (Nat.add (Nat.mul 9 (Nat.div c18 16)) (Nat.mod c18 16))) 1) (fun m21 => ez_sendTo_105 k c14 c17 m21)) false) false)) c_p0 c5 m15)) c_p0 m15) 5 c_p0 c_p1 c7 c9 c12 m)) false) c_p0 c7 m)) (zq_bc (zq_bl c_p0 5) (zq_bc (zq_bl c_p0 5) (zq_fo (zq_rd m (Nat.add 34 c_p0)) (fun c24 => zq_fo (zq_rd m (Nat.add 39 c_p0)) (fun c26 => ez_post (fun c28 m29 => k m29) 8 c_p0 c_p1 c24 c26 0 m))) false) false)) false)) false)
theorem sz_sendTo {pl sg : Nat → Nat → Int32} (H : zq_H pl sg) {post : St2 → Prop} {k : Nat → Bool} (hk : ∀ (u : St2) (m : Nat), zq_R pl sg m u → k m = true → post u) {p0 : Int32} {c_p0 : Nat} (h_p0 : p0 = nI c_p0) {p1 : Int32} {c_p1 : Nat} (h_p1 : p1 = nI c_p1) {u : St2} {m : Nat} (hR : zq_R pl sg m u) (h : ez_sendTo k c_p0 c_p1 m = true) : wpX_sendTo post u p0 p1 := by
  obtain ⟨f0_first, f0_waiting, f0_holder, f0_wrong, a1, a2, a3, a4, a5, a6, a7, a8, a9, a10, a11, a12, a13, a14, a15, a16, a17⟩ := u
  unfold wpX_sendTo
  unfold ez_sendTo at h
  obtain ⟨c1, ec1, h⟩ := zq_fo_e h
  have hf2 := zq_tr (zq_xad (zq_xml (rfl : (5 : Int32) = nI 5) h_p0) h_p1) ec1
  refine zq_vi hf2 h (fun q3 h => ?_)
  have hf4 := zq_tr (zq_xad (zq_xml (rfl : (5 : Int32) = nI 5) h_p0) h_p1) ec1
  refine zq_le_t h (zq_g14 hR hf4 q3) (fun x3_2 c5 hc5 h => ?_)
  refine zq_vi h_p0 h (fun q6 h => ?_)
  refine zq_br (zq_clt (zq_g7 hR h_p0 q6) hc5) h (fun h => ?_) (fun h => ?_)
  · obtain ⟨c7, ec7, h⟩ := zq_fo_e h
    have hf8 := zq_tr (zq_xsb hc5 (rfl : (1 : Int32) = nI 1)) ec7
    refine sz_termAt H ?_ h_p0 hf8 hR h
    intro r_5 c9 hc9 h
    refine zq_vi h_p0 h (fun q10 h => ?_)
    have hf11 := zq_tr (zq_xsb hc5 (rfl : (1 : Int32) = nI 1)) ec7
    obtain ⟨c12, ec12, h⟩ := zq_fo_e h
    have hf13 := zq_tr (zq_g11 hR h_p0 q10) ec12
    refine sz_post H ?_ (rfl : (5 : Int32) = nI 5) h_p0 h_p1 hf11 hc9 hf13 hR h
    intro r_7 c14 u m15 hc14 hR h
    obtain ⟨f0_first_8, f0_waiting_9, f0_holder_10, f0_wrong_11, am691_14, am692_17, am693_20, am694_23, am695_26, am696_29, am697_32, am698_35, am699_38, am6910_41, am6911_44, am6912_47, am6913_50, am6914_53, am6915_56, am6916_59, am6917_62⟩ := u
    refine sz_lastOf H ?_ h_p0 hR h
    intro r_63 c16 hc16 h
    refine zq_br (zq_clt hc16 hc5) h (fun h => ?_) (fun h => ?_)
    · exact hk _ _ hR h
    · refine sz_cellOf H ?_ h_p0 hc5 hR h
      intro r_65 c17 hc17 h
      obtain ⟨c18, ec18, h⟩ := zq_fo_e h
      have hf19 := zq_tr (zq_xad hc14 (rfl : (7 : Int32) = nI 7)) ec18
      obtain ⟨q20, h⟩ := zq_bc_s h
      refine zq_st16 hR hf19 (rfl : (1 : Int32) = nI 1) q20 h (fun am6916_67 m21 hR h => ?_)
      exact sz_sendTo_105 H hk hc14 hc17 hR h
  · refine zq_vi h_p0 h (fun q22 h => ?_)
    refine zq_vi h_p0 h (fun q23 h => ?_)
    obtain ⟨c24, ec24, h⟩ := zq_fo_e h
    have hf25 := zq_tr (zq_g7 hR h_p0 q23) ec24
    obtain ⟨c26, ec26, h⟩ := zq_fo_e h
    have hf27 := zq_tr (zq_g8 hR h_p0 q23) ec26
    refine sz_post H ?_ (rfl : (8 : Int32) = nI 8) h_p0 h_p1 hf25 hf27 (rfl : (0 : Int32) = nI 0) hR h
    intro r_75 c28 u m29 hc28 hR h
    obtain ⟨f0_first_76, f0_waiting_77, f0_holder_78, f0_wrong_79, am391_82, am392_85, am393_88, am394_91, am395_94, am396_97, am397_100, am398_103, am399_106, am3910_109, am3911_112, am3912_115, am3913_118, am3914_121, am3915_124, am3916_127, am3917_130⟩ := u
    exact hk _ _ hR h
noncomputable def ez_sendAll_8_b (k : Nat → Bool) (ih : Nat → Nat → Bool) (c_x1 : Nat) (c_x2 : Nat) (c_x3 : Nat) (m : Nat) : Bool := zq_bc (zq_le 5 c_x3) (k m) (zq_bc (zq_eq c_x3 c_x1) (zq_fo (zq_ad c_x3 1) (fun c1 => ih c1 m)) (zq_bc (zq_eq (zq_bit c_x2 c_x3) 1) (ez_sendTo (fun m2 => zq_fo (zq_ad c_x3 1) (fun c3 => ih c3 m2)) c_x1 c_x3 m) (zq_fo (zq_ad c_x3 1) (fun c4 => ih c4 m))))
noncomputable def ez_sendAll_8 (k : Nat → Bool) (c_x1 : Nat) (c_x2 : Nat) (n : Nat) : Nat → Nat → Bool := Nat.rec (motive := fun _ => Nat → Nat → Bool) (fun _ _ => false) (fun _ ih => ez_sendAll_8_b k ih c_x1 c_x2) n
theorem sz_sendAll_8 {pl sg : Nat → Nat → Int32} (H : zq_H pl sg) {post : St2 → Prop} {k : Nat → Bool} (hk : ∀ (u : St2) (m : Nat), zq_R pl sg m u → k m = true → post u) {x1 : Int32} {c_x1 : Nat} (h_x1 : x1 = nI c_x1) {x2 : Int32} {c_x2 : Nat} (h_x2 : x2 = nI c_x2) : ∀ (n : Nat) (x3 : Int32) (c_x3 : Nat) (m : Nat) (f0_first : Int32) (f0_waiting : Int32) (f0_holder : Int32) (f0_wrong : Int32) (a1 : Nat → Int32) (a2 : Nat → Int32) (a3 : Nat → Int32) (a4 : Nat → Int32) (a5 : Nat → Int32) (a6 : Nat → Int32) (a7 : Nat → Int32) (a8 : Nat → Int32) (a9 : Nat → Int32) (a10 : Nat → Int32) (a11 : Nat → Int32) (a12 : Nat → Int32) (a13 : Nat → Int32) (a14 : Nat → Int32) (a15 : Nat → Int32) (a16 : Nat → Int32) (a17 : Nat → Int32), x3 = nI c_x3 → zq_R pl sg m (f0_first, f0_waiting, f0_holder, f0_wrong, a1, a2, a3, a4, a5, a6, a7, a8, a9, a10, a11, a12, a13, a14, a15, a16, a17) → ez_sendAll_8 k c_x1 c_x2 n c_x3 m = true → wX_sendAll_8 post x1 x2 n x3 f0_first f0_waiting f0_holder f0_wrong a1 a2 a3 a4 a5 a6 a7 a8 a9 a10 a11 a12 a13 a14 a15 a16 a17 := by
  intro n
  induction n with
  | zero =>
    intro x3 c_x3 m f0_first f0_waiting f0_holder f0_wrong a1 a2 a3 a4 a5 a6 a7 a8 a9 a10 a11 a12 a13 a14 a15 a16 a17 h_x3 hR h
    exact zq_ff h
  | succ n ih =>
    intro x3 c_x3 m f0_first f0_waiting f0_holder f0_wrong a1 a2 a3 a4 a5 a6 a7 a8 a9 a10 a11 a12 a13 a14 a15 a16 a17 h_x3 hR h
    have h : ez_sendAll_8_b k (ez_sendAll_8 k c_x1 c_x2 n) c_x1 c_x2 c_x3 m = true := h
    unfold ez_sendAll_8_b at h
    unfold wX_sendAll_8
    refine zq_br (zq_cle (rfl : (5 : Int32) = nI 5) h_x3) h (fun h => ?_) (fun h => ?_)
    · exact hk _ _ hR h
    · refine zq_br (zq_ceq h_x3 h_x1) h (fun h => ?_) (fun h => ?_)
      · refine zq_le_t h (zq_xad h_x3 (rfl : (1 : Int32) = nI 1)) (fun x3_4 c1 hc1 h => ?_)
        exact ih _ _ _ _ _ _ _ _ _ _ _ _ _ _ _ _ _ _ _ _ _ _ _ _ hc1 hR h
      · refine zq_br (zq_ceq (zq_xbit h_x2 h_x3) (rfl : (1 : Int32) = nI 1)) h (fun h => ?_) (fun h => ?_)
        · refine sz_sendTo H ?_ h_x1 h_x3 hR h
          intro u m2 hR h
          obtain ⟨f0_first_8, f0_waiting_9, f0_holder_10, f0_wrong_11, am301_14, am302_17, am303_20, am304_23, am305_26, am306_29, am307_32, am308_35, am309_38, am3010_41, am3011_44, am3012_47, am3013_50, am3014_53, am3015_56, am3016_59, am3017_62⟩ := u
          refine zq_le_t h (zq_xad h_x3 (rfl : (1 : Int32) = nI 1)) (fun x3_63 c3 hc3 h => ?_)
          exact ih _ _ _ _ _ _ _ _ _ _ _ _ _ _ _ _ _ _ _ _ _ _ _ _ hc3 hR h
        · refine zq_le_t h (zq_xad h_x3 (rfl : (1 : Int32) = nI 1)) (fun x3_6 c4 hc4 h => ?_)
          exact ih _ _ _ _ _ _ _ _ _ _ _ _ _ _ _ _ _ _ _ _ _ _ _ _ hc4 hR h
noncomputable def ez_sendAll (k : Nat → Bool) (c_p0 : Nat) (m : Nat) : Bool := ez_membersFor (fun c1 => ez_sendAll_8 k c_p0 c1 300 0 m) c_p0 m
theorem sz_sendAll {pl sg : Nat → Nat → Int32} (H : zq_H pl sg) {post : St2 → Prop} {k : Nat → Bool} (hk : ∀ (u : St2) (m : Nat), zq_R pl sg m u → k m = true → post u) {p0 : Int32} {c_p0 : Nat} (h_p0 : p0 = nI c_p0) {u : St2} {m : Nat} (hR : zq_R pl sg m u) (h : ez_sendAll k c_p0 m = true) : wpX_sendAll post u p0 := by
  obtain ⟨f0_first, f0_waiting, f0_holder, f0_wrong, a1, a2, a3, a4, a5, a6, a7, a8, a9, a10, a11, a12, a13, a14, a15, a16, a17⟩ := u
  unfold wpX_sendAll
  unfold ez_sendAll at h
  refine sz_membersFor H ?_ h_p0 hR h
  intro r_1 c1 hc1 h
  exact ⟨300, sz_sendAll_8 H hk h_p0 hc1 300 _ _ _ _ _ _ _ _ _ _ _ _ _ _ _ _ _ _ _ _ _ _ _ _ (rfl : (0 : Int32) = nI 0) hR h⟩
noncomputable def ez_hear_84 (k : Nat → Bool) (c_x2 : Nat) (c_x3 : Nat) (c_x4 : Nat) (c_z0 : Nat) (c_z1 : Nat) (m : Nat) : Bool := zq_bc (zq_bl c_z1 25) (zq_fo (zq_wr m (Nat.add 89 c_z1) c_z0) (fun m1 => zq_bc (zq_bl c_x4 25) (zq_bc (zq_bl c_x4 25) (zq_fo (zq_wr m1 (Nat.add 64 c_x4) (zq_ad (zq_rd m1 (Nat.add 89 c_x4)) 1)) (fun m3 => ez_countMost (fun m4 => zq_bc (zq_bl c_x4 25) (ez_lastOf (fun c6 => zq_bc (zq_lt c6 (zq_rd m4 (Nat.add 64 c_x4))) (k m4) (ez_sendTo (fun m7 => k m7) c_x3 c_x2 m4)) c_x3 m4) false) c_x3 m3)) false) false)) false
theorem sz_hear_84 {pl sg : Nat → Nat → Int32} (H : zq_H pl sg) {post : St2 → Prop} {k : Nat → Bool} (hk : ∀ (u : St2) (m : Nat), zq_R pl sg m u → k m = true → post u) {f0_first : Int32} {f0_waiting : Int32} {f0_holder : Int32} {f0_wrong : Int32} {a1 : Nat → Int32} {a2 : Nat → Int32} {a3 : Nat → Int32} {a4 : Nat → Int32} {a5 : Nat → Int32} {a6 : Nat → Int32} {a7 : Nat → Int32} {a8 : Nat → Int32} {a9 : Nat → Int32} {a10 : Nat → Int32} {a11 : Nat → Int32} {a12 : Nat → Int32} {a13 : Nat → Int32} {a14 : Nat → Int32} {a15 : Nat → Int32} {a16 : Nat → Int32} {a17 : Nat → Int32} {x2 : Int32} {c_x2 : Nat} (h_x2 : x2 = nI c_x2) {x3 : Int32} {c_x3 : Nat} (h_x3 : x3 = nI c_x3) {x4 : Int32} {c_x4 : Nat} (h_x4 : x4 = nI c_x4) {z0 : Int32} {c_z0 : Nat} (h_z0 : z0 = nI c_z0) {z1 : Int32} {c_z1 : Nat} (h_z1 : z1 = nI c_z1) {m : Nat} (hR : zq_R pl sg m (f0_first, f0_waiting, f0_holder, f0_wrong, a1, a2, a3, a4, a5, a6, a7, a8, a9, a10, a11, a12, a13, a14, a15, a16, a17)) (h : ez_hear_84 k c_x2 c_x3 c_x4 c_z0 c_z1 m = true) : wX_hear_84 post x2 x3 x4 z0 z1 f0_first f0_waiting f0_holder f0_wrong a1 a2 a3 a4 a5 a6 a7 a8 a9 a10 a11 a12 a13 a14 a15 a16 a17 := by
  unfold wX_hear_84
  unfold ez_hear_84 at h
  refine zq_st15 hR h_z1 h_z0 h (fun a15_9 m1 hR h => ?_)
  refine zq_vi h_x4 h (fun q2 h => ?_)
  refine zq_st14 hR h_x4 (zq_xad (zq_g15 hR h_x4 q2) (rfl : (1 : Int32) = nI 1)) h (fun a14_12 m3 hR h => ?_)
  refine sz_countMost H ?_ h_x3 hR h
  intro u m4 hR h
  obtain ⟨f0_first_14, f0_waiting_15, f0_holder_16, f0_wrong_17, am1031_20, am1032_23, am1033_26, am1034_29, am1035_32, am1036_35, am1037_38, am1038_41, am1039_44, am10310_47, am10311_50, am10312_53, am10313_56, am10314_59, am10315_62, am10316_65, am10317_68⟩ := u
  refine zq_vi h_x4 h (fun q5 h => ?_)
  refine sz_lastOf H ?_ h_x3 hR h
  intro r_70 c6 hc6 h
  refine zq_br (zq_clt hc6 (zq_g14 hR h_x4 q5)) h (fun h => ?_) (fun h => ?_)
  · exact hk _ _ hR h
  · refine sz_sendTo H ?_ h_x3 h_x2 hR h
    intro u m7 hR h
    obtain ⟨f0_first_73, f0_waiting_74, f0_holder_75, f0_wrong_76, am1241_79, am1242_82, am1243_85, am1244_88, am1245_91, am1246_94, am1247_97, am1248_100, am1249_103, am12410_106, am12411_109, am12412_112, am12413_115, am12414_118, am12415_121, am12416_124, am12417_127⟩ := u
    exact hk _ _ hR h
noncomputable def ez_hear (k : Nat → Bool) (c_p0 : Nat) (c_p1 : Nat) (c_p2 : Nat) (m : Nat) : Bool := zq_bc (zq_bl c_p2 5) (zq_bc (zq_eq (zq_rd m (Nat.add 14 c_p2)) 1) (zq_fo (zq_ad (zq_ml 5 c_p2) c_p1) (fun c2 => zq_bc (zq_eq c_p0 7) (zq_bc (zq_bl c2 25) (zq_fo (zq_wr m (Nat.add 64 c2) (zq_ad (zq_rd m 118) 1)) (fun m3 => ez_sendTo (fun m4 => k m4) c_p2 c_p1 m3)) false) (zq_bc (zq_bl c2 25) (zq_bc (zq_le (zq_rd m 118) (zq_rd m (Nat.add 89 c2))) (zq_bc (zq_bl c2 25) (zq_fo (zq_rd m (Nat.add 89 c2)) (fun c7 => ez_hear_84 k c_p1 c_p2 c2 c7 c2 m)) false) (zq_fo (zq_rd m 118) (fun c9 => ez_hear_84 k c_p1 c_p2 c2 c9 c2 m))) false))) (k m)) false
theorem sz_hear {pl sg : Nat → Nat → Int32} (H : zq_H pl sg) {post : St2 → Prop} {k : Nat → Bool} (hk : ∀ (u : St2) (m : Nat), zq_R pl sg m u → k m = true → post u) {p0 : Int32} {c_p0 : Nat} (h_p0 : p0 = nI c_p0) {p1 : Int32} {c_p1 : Nat} (h_p1 : p1 = nI c_p1) {p2 : Int32} {c_p2 : Nat} (h_p2 : p2 = nI c_p2) {u : St2} {m : Nat} (hR : zq_R pl sg m u) (h : ez_hear k c_p0 c_p1 c_p2 m = true) : wpX_hear post u p0 p1 p2 := by
  obtain ⟨f0_first, f0_waiting, f0_holder, f0_wrong, a1, a2, a3, a4, a5, a6, a7, a8, a9, a10, a11, a12, a13, a14, a15, a16, a17⟩ := u
  unfold wpX_hear
  unfold ez_hear at h
  refine zq_vi h_p2 h (fun q1 h => ?_)
  refine zq_br (zq_ceq (zq_g3 hR h_p2 q1) (rfl : (1 : Int32) = nI 1)) h (fun h => ?_) (fun h => ?_)
  · refine zq_le_t h (zq_xad (zq_xml (rfl : (5 : Int32) = nI 5) h_p2) h_p1) (fun x4_3 c2 hc2 h => ?_)
    refine zq_br (zq_ceq h_p0 (rfl : (7 : Int32) = nI 7)) h (fun h => ?_) (fun h => ?_)
    · refine zq_st14 hR hc2 (zq_xad (zq_gm4 hR) (rfl : (1 : Int32) = nI 1)) h (fun a14_129 m3 hR h => ?_)
      refine sz_sendTo H ?_ h_p2 h_p1 hR h
      intro u m4 hR h
      obtain ⟨f0_first_131, f0_waiting_132, f0_holder_133, f0_wrong_134, am421_137, am422_140, am423_143, am424_146, am425_149, am426_152, am427_155, am428_158, am429_161, am4210_164, am4211_167, am4212_170, am4213_173, am4214_176, am4215_179, am4216_182, am4217_185⟩ := u
      exact hk _ _ hR h
    · refine zq_vi hc2 h (fun q5 h => ?_)
      refine zq_br (zq_cle (zq_gm4 hR) (zq_g15 hR hc2 q5)) h (fun h => ?_) (fun h => ?_)
      · refine zq_vi hc2 h (fun q6 h => ?_)
        obtain ⟨c7, ec7, h⟩ := zq_fo_e h
        have hf8 := zq_tr (zq_g15 hR hc2 q6) ec7
        exact sz_hear_84 H hk h_p1 h_p2 hc2 hf8 hc2 hR h
      · obtain ⟨c9, ec9, h⟩ := zq_fo_e h
        have hf10 := zq_tr (zq_gm4 hR) ec9
        exact sz_hear_84 H hk h_p1 h_p2 hc2 hf10 hc2 hR h
  · exact hk _ _ hR h
noncomputable def ez_enterTerm (k : Nat → Bool) (c_p0 : Nat) (c_p1 : Nat) (m : Nat) : Bool := zq_bc (zq_bl c_p0 5) (zq_bc (zq_le c_p1 (zq_rd m (Nat.add 19 c_p0))) (k m) (zq_bc (zq_bl c_p0 5) (zq_fo (zq_wr m (Nat.add 19 c_p0) c_p1) (fun m2 => zq_bc (zq_bl c_p0 5) (zq_fo (zq_wr m2 (Nat.add 24 c_p0) 4294967295) (fun m3 => zq_bc (zq_bl c_p0 5) (zq_fo (zq_wr m3 (Nat.add 14 c_p0) 0) (fun m4 => k m4)) false)) false)) false)) false
theorem sz_enterTerm {pl sg : Nat → Nat → Int32} (H : zq_H pl sg) {post : St2 → Prop} {k : Nat → Bool} (hk : ∀ (u : St2) (m : Nat), zq_R pl sg m u → k m = true → post u) {p0 : Int32} {c_p0 : Nat} (h_p0 : p0 = nI c_p0) {p1 : Int32} {c_p1 : Nat} (h_p1 : p1 = nI c_p1) {u : St2} {m : Nat} (hR : zq_R pl sg m u) (h : ez_enterTerm k c_p0 c_p1 m = true) : wpX_enterTerm post u p0 p1 := by
  obtain ⟨f0_first, f0_waiting, f0_holder, f0_wrong, a1, a2, a3, a4, a5, a6, a7, a8, a9, a10, a11, a12, a13, a14, a15, a16, a17⟩ := u
  unfold wpX_enterTerm
  unfold ez_enterTerm at h
  refine zq_vi h_p0 h (fun q1 h => ?_)
  refine zq_br (zq_cle h_p1 (zq_g4 hR h_p0 q1)) h (fun h => ?_) (fun h => ?_)
  · exact hk _ _ hR h
  · refine zq_st4 hR h_p0 h_p1 h (fun a4_4 m2 hR h => ?_)
    refine zq_st5 hR h_p0 zq_m1 h (fun a5_6 m3 hR h => ?_)
    refine zq_st3 hR h_p0 (rfl : (0 : Int32) = nI 0) h (fun a3_8 m4 hR h => ?_)
    exact hk _ _ hR h
noncomputable def ez_newEntry_16 (k : Nat → Nat → Bool) (c_x1 : Nat) (m : Nat) : Bool := zq_bc (zq_bl c_x1 5) (zq_bc (zq_bl c_x1 5) (zq_fo (zq_wr m (Nat.add 44 c_x1) (zq_ad (zq_rd m (Nat.add 44 c_x1)) 1)) (fun m2 => ez_lastOf (fun c3 => ez_cellOf (fun c4 => k c4 m2) c_x1 c3 m2) c_x1 m2)) false) false
theorem sz_newEntry_16 {pl sg : Nat → Nat → Int32} (H : zq_H pl sg) {post : Int32 → St2 → Prop} {k : Nat → Nat → Bool} (hk : ∀ (x : Int32) (c : Nat) (u : St2) (m : Nat), x = nI c → zq_R pl sg m u → k c m = true → post x u) {f0_first : Int32} {f0_waiting : Int32} {f0_holder : Int32} {f0_wrong : Int32} {a1 : Nat → Int32} {a2 : Nat → Int32} {a3 : Nat → Int32} {a4 : Nat → Int32} {a5 : Nat → Int32} {a6 : Nat → Int32} {a7 : Nat → Int32} {a8 : Nat → Int32} {a9 : Nat → Int32} {a10 : Nat → Int32} {a11 : Nat → Int32} {a12 : Nat → Int32} {a13 : Nat → Int32} {a14 : Nat → Int32} {a15 : Nat → Int32} {a16 : Nat → Int32} {a17 : Nat → Int32} {x1 : Int32} {c_x1 : Nat} (h_x1 : x1 = nI c_x1) {m : Nat} (hR : zq_R pl sg m (f0_first, f0_waiting, f0_holder, f0_wrong, a1, a2, a3, a4, a5, a6, a7, a8, a9, a10, a11, a12, a13, a14, a15, a16, a17)) (h : ez_newEntry_16 k c_x1 m = true) : wX_newEntry_16 post x1 f0_first f0_waiting f0_holder f0_wrong a1 a2 a3 a4 a5 a6 a7 a8 a9 a10 a11 a12 a13 a14 a15 a16 a17 := by
  unfold wX_newEntry_16
  unfold ez_newEntry_16 at h
  refine zq_vi h_x1 h (fun q1 h => ?_)
  refine zq_st9 hR h_x1 (zq_xad (zq_g9 hR h_x1 q1) (rfl : (1 : Int32) = nI 1)) h (fun a9_5 m2 hR h => ?_)
  refine sz_lastOf H ?_ h_x1 hR h
  intro r_6 c3 hc3 h
  refine sz_cellOf H ?_ h_x1 hc3 hR h
  intro r_7 c4 hc4 h
  exact hk _ _ _ _ hc4 hR h
noncomputable def ez_newEntry (k : Nat → Nat → Bool) (c_p0 : Nat) (m : Nat) : Bool := zq_bc (zq_bl c_p0 5) (zq_bc (zq_eq (zq_rd m (Nat.add 44 c_p0)) 16) (false) (ez_newEntry_16 k c_p0 m)) false
theorem sz_newEntry {pl sg : Nat → Nat → Int32} (H : zq_H pl sg) {post : Int32 → St2 → Prop} {k : Nat → Nat → Bool} (hk : ∀ (x : Int32) (c : Nat) (u : St2) (m : Nat), x = nI c → zq_R pl sg m u → k c m = true → post x u) {p0 : Int32} {c_p0 : Nat} (h_p0 : p0 = nI c_p0) {u : St2} {m : Nat} (hR : zq_R pl sg m u) (h : ez_newEntry k c_p0 m = true) : wpX_newEntry post u p0 := by
  obtain ⟨f0_first, f0_waiting, f0_holder, f0_wrong, a1, a2, a3, a4, a5, a6, a7, a8, a9, a10, a11, a12, a13, a14, a15, a16, a17⟩ := u
  unfold wpX_newEntry
  unfold ez_newEntry at h
  refine zq_vi h_p0 h (fun q1 h => ?_)
  refine zq_br (zq_ceq (zq_g9 hR h_p0 q1) (rfl : (16 : Int32) = nI 16)) h (fun h => ?_) (fun h => ?_)
  · exact zq_ff h
  · exact sz_newEntry_16 H hk h_p0 hR h
noncomputable def ez_takeEntry_26 (k : Nat → Bool) (c_x1 : Nat) (c_x2 : Nat) (m : Nat) : Bool := zq_bc (zq_bl c_x1 5) (zq_bc (zq_bl c_x1 5) (zq_fo (zq_wr m (Nat.add 44 c_x1) (zq_sb (zq_sb c_x2 1) (zq_rd m (Nat.add 34 c_x1)))) (fun m2 => ez_newEntry (fun c3 m4 => ez_takeEntry_51 k c3 m4) c_x1 m2)) false) false
theorem sz_takeEntry_26 {pl sg : Nat → Nat → Int32} (H : zq_H pl sg) {post : St2 → Prop} {k : Nat → Bool} (hk : ∀ (u : St2) (m : Nat), zq_R pl sg m u → k m = true → post u) {f0_first : Int32} {f0_waiting : Int32} {f0_holder : Int32} {f0_wrong : Int32} {a1 : Nat → Int32} {a2 : Nat → Int32} {a3 : Nat → Int32} {a4 : Nat → Int32} {a5 : Nat → Int32} {a6 : Nat → Int32} {a7 : Nat → Int32} {a8 : Nat → Int32} {a9 : Nat → Int32} {a10 : Nat → Int32} {a11 : Nat → Int32} {a12 : Nat → Int32} {a13 : Nat → Int32} {a14 : Nat → Int32} {a15 : Nat → Int32} {a16 : Nat → Int32} {a17 : Nat → Int32} {x1 : Int32} {c_x1 : Nat} (h_x1 : x1 = nI c_x1) {x2 : Int32} {c_x2 : Nat} (h_x2 : x2 = nI c_x2) {m : Nat} (hR : zq_R pl sg m (f0_first, f0_waiting, f0_holder, f0_wrong, a1, a2, a3, a4, a5, a6, a7, a8, a9, a10, a11, a12, a13, a14, a15, a16, a17)) (h : ez_takeEntry_26 k c_x1 c_x2 m = true) : wX_takeEntry_26 post x1 x2 f0_first f0_waiting f0_holder f0_wrong a1 a2 a3 a4 a5 a6 a7 a8 a9 a10 a11 a12 a13 a14 a15 a16 a17 := by
  unfold wX_takeEntry_26
  unfold ez_takeEntry_26 at h
  refine zq_vi h_x1 h (fun q1 h => ?_)
  refine zq_st9 hR h_x1 (zq_xsb (zq_xsb h_x2 (rfl : (1 : Int32) = nI 1)) (zq_g7 hR h_x1 q1)) h (fun a9_5 m2 hR h => ?_)
  refine sz_newEntry H ?_ h_x1 hR h
  intro r_6 c3 u m4 hc3 hR h
  obtain ⟨f0_first_7, f0_waiting_8, f0_holder_9, f0_wrong_10, am441_13, am442_16, am443_19, am444_22, am445_25, am446_28, am447_31, am448_34, am449_37, am4410_40, am4411_43, am4412_46, am4413_49, am4414_52, am4415_55, am4416_58, am4417_61⟩ := u
  exact sz_takeEntry_51 H hk hc3 hR h
noncomputable def ez_takeEntry (k : Nat → Bool) (c_p0 : Nat) (c_p1 : Nat) (m : Nat) : Bool := ez_lastOf (fun c1 => zq_bc (zq_lt c1 c_p1) (ez_takeEntry_26 k c_p0 c_p1 m) (ez_termAt (fun c2 => zq_bc (zq_eq c2 (Nat.mod (zq_rd m 122) 65536)) (k m) (ez_takeEntry_26 k c_p0 c_p1 m)) c_p0 c_p1 m)) c_p0 m
theorem sz_takeEntry {pl sg : Nat → Nat → Int32} (H : zq_H pl sg) {post : St2 → Prop} {k : Nat → Bool} (hk : ∀ (u : St2) (m : Nat), zq_R pl sg m u → k m = true → post u) {p0 : Int32} {c_p0 : Nat} (h_p0 : p0 = nI c_p0) {p1 : Int32} {c_p1 : Nat} (h_p1 : p1 = nI c_p1) {u : St2} {m : Nat} (hR : zq_R pl sg m u) (h : ez_takeEntry k c_p0 c_p1 m = true) : wpX_takeEntry post u p0 p1 := by
  obtain ⟨f0_first, f0_waiting, f0_holder, f0_wrong, a1, a2, a3, a4, a5, a6, a7, a8, a9, a10, a11, a12, a13, a14, a15, a16, a17⟩ := u
  unfold wpX_takeEntry
  unfold ez_takeEntry at h
  refine sz_lastOf H ?_ h_p0 hR h
  intro r_1 c1 hc1 h
  refine zq_br (zq_clt hc1 h_p1) h (fun h => ?_) (fun h => ?_)
  · exact sz_takeEntry_26 H hk h_p0 h_p1 hR h
  · refine sz_termAt H ?_ h_p0 h_p1 hR h
    intro r_67 c2 hc2 h
    refine zq_br (zq_ceq hc2 (zq_gm8 hR)) h (fun h => ?_) (fun h => ?_)
    · exact hk _ _ hR h
    · exact sz_takeEntry_26 H hk h_p0 h_p1 hR h
noncomputable def ez_append_115 (k : Nat → Bool) (c_x1 : Nat) (c_x2 : Nat) (c_z0 : Nat) (m : Nat) : Bool := ez_post (fun c1 m2 => k m2) 7 c_x2 c_x1 c_z0 0 0 m
theorem sz_append_115 {pl sg : Nat → Nat → Int32} (H : zq_H pl sg) {post : St2 → Prop} {k : Nat → Bool} (hk : ∀ (u : St2) (m : Nat), zq_R pl sg m u → k m = true → post u) {f0_first : Int32} {f0_waiting : Int32} {f0_holder : Int32} {f0_wrong : Int32} {am241 : Nat → Int32} {am242 : Nat → Int32} {am243 : Nat → Int32} {am244 : Nat → Int32} {am245 : Nat → Int32} {am246 : Nat → Int32} {am247 : Nat → Int32} {am248 : Nat → Int32} {am249 : Nat → Int32} {am2410 : Nat → Int32} {am2411 : Nat → Int32} {am2412 : Nat → Int32} {am2413 : Nat → Int32} {am2414 : Nat → Int32} {am2415 : Nat → Int32} {am2416 : Nat → Int32} {am2417 : Nat → Int32} {x1 : Int32} {c_x1 : Nat} (h_x1 : x1 = nI c_x1) {x2 : Int32} {c_x2 : Nat} (h_x2 : x2 = nI c_x2) {z0 : Int32} {c_z0 : Nat} (h_z0 : z0 = nI c_z0) {m : Nat} (hR : zq_R pl sg m (f0_first, f0_waiting, f0_holder, f0_wrong, am241, am242, am243, am244, am245, am246, am247, am248, am249, am2410, am2411, am2412, am2413, am2414, am2415, am2416, am2417)) (h : ez_append_115 k c_x1 c_x2 c_z0 m = true) : wX_append_115 post x1 x2 z0 f0_first f0_waiting f0_holder f0_wrong am241 am242 am243 am244 am245 am246 am247 am248 am249 am2410 am2411 am2412 am2413 am2414 am2415 am2416 am2417 := by
  unfold wX_append_115
  unfold ez_append_115 at h
  refine sz_post H ?_ (rfl : (7 : Int32) = nI 7) h_x2 h_x1 h_z0 (rfl : (0 : Int32) = nI 0) (rfl : (0 : Int32) = nI 0) hR h
  intro r_69 c1 u m2 hc1 hR h
  obtain ⟨f0_first_70, f0_waiting_71, f0_holder_72, f0_wrong_73, am1261_76, am1262_79, am1263_82, am1264_85, am1265_88, am1266_91, am1267_94, am1268_97, am1269_100, am12610_103, am12611_106, am12612_109, am12613_112, am12614_115, am12615_118, am12616_121, am12617_124⟩ := u
  exact hk _ _ hR h
noncomputable def ez_append_93 (k : Nat → Bool) (c_x1 : Nat) (c_x2 : Nat) (c_x3 : Nat) (m : Nat) : Bool := ez_lastOf (fun c1 => zq_bc (zq_le c1 (zq_sb c_x3 1)) (ez_lastOf (fun c2 => ez_append_115 k c_x1 c_x2 c2 m) c_x2 m) (zq_fo (zq_sb c_x3 1) (fun c3 => ez_append_115 k c_x1 c_x2 c3 m))) c_x2 m
theorem sz_append_93 {pl sg : Nat → Nat → Int32} (H : zq_H pl sg) {post : St2 → Prop} {k : Nat → Bool} (hk : ∀ (u : St2) (m : Nat), zq_R pl sg m u → k m = true → post u) {f0_first : Int32} {f0_waiting : Int32} {f0_holder : Int32} {f0_wrong : Int32} {am241 : Nat → Int32} {am242 : Nat → Int32} {am243 : Nat → Int32} {am244 : Nat → Int32} {am245 : Nat → Int32} {am246 : Nat → Int32} {am247 : Nat → Int32} {am248 : Nat → Int32} {am249 : Nat → Int32} {am2410 : Nat → Int32} {am2411 : Nat → Int32} {am2412 : Nat → Int32} {am2413 : Nat → Int32} {am2414 : Nat → Int32} {am2415 : Nat → Int32} {am2416 : Nat → Int32} {am2417 : Nat → Int32} {x1 : Int32} {c_x1 : Nat} (h_x1 : x1 = nI c_x1) {x2 : Int32} {c_x2 : Nat} (h_x2 : x2 = nI c_x2) {x3 : Int32} {c_x3 : Nat} (h_x3 : x3 = nI c_x3) {m : Nat} (hR : zq_R pl sg m (f0_first, f0_waiting, f0_holder, f0_wrong, am241, am242, am243, am244, am245, am246, am247, am248, am249, am2410, am2411, am2412, am2413, am2414, am2415, am2416, am2417)) (h : ez_append_93 k c_x1 c_x2 c_x3 m = true) : wX_append_93 post x1 x2 x3 f0_first f0_waiting f0_holder f0_wrong am241 am242 am243 am244 am245 am246 am247 am248 am249 am2410 am2411 am2412 am2413 am2414 am2415 am2416 am2417 := by
  unfold wX_append_93
  unfold ez_append_93 at h
  refine sz_lastOf H ?_ h_x2 hR h
  intro r_66 c1 hc1 h
  refine zq_br (zq_cle hc1 (zq_xsb h_x3 (rfl : (1 : Int32) = nI 1))) h (fun h => ?_) (fun h => ?_)
  · refine sz_lastOf H ?_ h_x2 hR h
    intro r_68 c2 hc2 h
    exact sz_append_115 H hk h_x1 h_x2 hc2 hR h
  · obtain ⟨c3, ec3, h⟩ := zq_fo_e h
    have hf4 := zq_tr (zq_xsb h_x3 (rfl : (1 : Int32) = nI 1)) ec3
    exact sz_append_115 H hk h_x1 h_x2 hf4 hR h
noncomputable def ez_append_183 (k : Nat → Bool) (c_x1 : Nat) (c_x2 : Nat) (c_x4 : Nat) (c_z0 : Nat) (c_z1 : Nat) (m : Nat) : Bool := ez_countTo (fun m1 => ez_post (fun c2 m3 => k m3) 6 c_x2 c_x1 c_x4 0 0 m1) c_z1 c_z0 m
theorem sz_append_183 {pl sg : Nat → Nat → Int32} (H : zq_H pl sg) {post : St2 → Prop} {k : Nat → Bool} (hk : ∀ (u : St2) (m : Nat), zq_R pl sg m u → k m = true → post u) {f0_first : Int32} {f0_waiting : Int32} {f0_holder : Int32} {f0_wrong : Int32} {am241 : Nat → Int32} {am242 : Nat → Int32} {am243 : Nat → Int32} {am244 : Nat → Int32} {am245 : Nat → Int32} {am246 : Nat → Int32} {am247 : Nat → Int32} {am248 : Nat → Int32} {am249 : Nat → Int32} {am2410 : Nat → Int32} {am2411 : Nat → Int32} {am2412 : Nat → Int32} {am2413 : Nat → Int32} {am2414 : Nat → Int32} {am2415 : Nat → Int32} {am2416 : Nat → Int32} {am2417 : Nat → Int32} {x1 : Int32} {c_x1 : Nat} (h_x1 : x1 = nI c_x1) {x2 : Int32} {c_x2 : Nat} (h_x2 : x2 = nI c_x2) {x4 : Int32} {c_x4 : Nat} (h_x4 : x4 = nI c_x4) {z0 : Int32} {c_z0 : Nat} (h_z0 : z0 = nI c_z0) {z1 : Int32} {c_z1 : Nat} (h_z1 : z1 = nI c_z1) {m : Nat} (hR : zq_R pl sg m (f0_first, f0_waiting, f0_holder, f0_wrong, am241, am242, am243, am244, am245, am246, am247, am248, am249, am2410, am2411, am2412, am2413, am2414, am2415, am2416, am2417)) (h : ez_append_183 k c_x1 c_x2 c_x4 c_z0 c_z1 m = true) : wX_append_183 post x1 x2 x4 z0 z1 f0_first f0_waiting f0_holder f0_wrong am241 am242 am243 am244 am245 am246 am247 am248 am249 am2410 am2411 am2412 am2413 am2414 am2415 am2416 am2417 := by
  unfold wX_append_183
  unfold ez_append_183 at h
  refine sz_countTo H ?_ h_z1 h_z0 hR h
  intro u m1 hR h
  obtain ⟨f0_first_130, f0_waiting_131, f0_holder_132, f0_wrong_133, am1831_136, am1832_139, am1833_142, am1834_145, am1835_148, am1836_151, am1837_154, am1838_157, am1839_160, am18310_163, am18311_166, am18312_169, am18313_172, am18314_175, am18315_178, am18316_181, am18317_184⟩ := u
  refine sz_post H ?_ (rfl : (6 : Int32) = nI 6) h_x2 h_x1 h_x4 (rfl : (0 : Int32) = nI 0) (rfl : (0 : Int32) = nI 0) hR h
  intro r_185 c2 u m3 hc2 hR h
  obtain ⟨f0_first_186, f0_waiting_187, f0_holder_188, f0_wrong_189, am1951_192, am1952_195, am1953_198, am1954_201, am1955_204, am1956_207, am1957_210, am1958_213, am1959_216, am19510_219, am19511_222, am19512_225, am19513_228, am19514_231, am19515_234, am19516_237, am19517_240⟩ := u
  exact hk _ _ hR h
noncomputable def ez_append_157 (k : Nat → Bool) (c_x1 : Nat) (c_x2 : Nat) (c_x4 : Nat) (m : Nat) : Bool := zq_bc (zq_le c_x4 (zq_rd m 120)) (ez_append_183 k c_x1 c_x2 c_x4 c_x4 c_x2 m) (zq_fo (zq_rd m 120) (fun c1 => ez_append_183 k c_x1 c_x2 c_x4 c1 c_x2 m))
theorem sz_append_157 {pl sg : Nat → Nat → Int32} (H : zq_H pl sg) {post : St2 → Prop} {k : Nat → Bool} (hk : ∀ (u : St2) (m : Nat), zq_R pl sg m u → k m = true → post u) {f0_first : Int32} {f0_waiting : Int32} {f0_holder : Int32} {f0_wrong : Int32} {am241 : Nat → Int32} {am242 : Nat → Int32} {am243 : Nat → Int32} {am244 : Nat → Int32} {am245 : Nat → Int32} {am246 : Nat → Int32} {am247 : Nat → Int32} {am248 : Nat → Int32} {am249 : Nat → Int32} {am2410 : Nat → Int32} {am2411 : Nat → Int32} {am2412 : Nat → Int32} {am2413 : Nat → Int32} {am2414 : Nat → Int32} {am2415 : Nat → Int32} {am2416 : Nat → Int32} {am2417 : Nat → Int32} {x1 : Int32} {c_x1 : Nat} (h_x1 : x1 = nI c_x1) {x2 : Int32} {c_x2 : Nat} (h_x2 : x2 = nI c_x2) {x4 : Int32} {c_x4 : Nat} (h_x4 : x4 = nI c_x4) {m : Nat} (hR : zq_R pl sg m (f0_first, f0_waiting, f0_holder, f0_wrong, am241, am242, am243, am244, am245, am246, am247, am248, am249, am2410, am2411, am2412, am2413, am2414, am2415, am2416, am2417)) (h : ez_append_157 k c_x1 c_x2 c_x4 m = true) : wX_append_157 post x1 x2 x4 f0_first f0_waiting f0_holder f0_wrong am241 am242 am243 am244 am245 am246 am247 am248 am249 am2410 am2411 am2412 am2413 am2414 am2415 am2416 am2417 := by
  unfold wX_append_157
  unfold ez_append_157 at h
  refine zq_br (zq_cle h_x4 (zq_gm6 hR)) h (fun h => ?_) (fun h => ?_)
  · exact sz_append_183 H hk h_x1 h_x2 h_x4 h_x4 h_x2 hR h
  · obtain ⟨c1, ec1, h⟩ := zq_fo_e h
    have hf2 := zq_tr (zq_gm6 hR) ec1
    exact sz_append_183 H hk h_x1 h_x2 h_x4 hf2 h_x2 hR h
noncomputable def ez_append (k : Nat → Bool) (c_p0 : Nat) (c_p1 : Nat) (m : Nat) : Bool := zq_bc (zq_bl c_p1 5) (zq_bc (zq_le (zq_rd m (Nat.add 19 c_p1)) (zq_rd m 117)) (zq_fo (zq_rd m 117) (fun c2 => ez_enterTerm (fun m4 => zq_bc (zq_bl c_p1 5) (zq_fo (zq_wr m4 (Nat.add 14 c_p1) 0) (fun m5 => zq_fo (zq_rd m5 118) (fun c6 => zq_bc (zq_bl c_p1 5) (zq_bc (zq_le (zq_rd m5 (Nat.add 34 c_p1)) c6) (ez_lastOf (fun c8 => zq_bc (zq_lt c8 c6) (ez_append_93 k c_p0 c_p1 c6 m5) (ez_termAt (fun c9 => zq_bc (zq_eq c9 (zq_rd m5 119)) (zq_bc (zq_eq (zq_rd m5 121) 1) (zq_fo (zq_ad c6 1) (fun c10 => ez_takeEntry (fun m11 => ez_append_157 k c_p0 c_p1 c10 m11) c_p1 c10 m5)) (ez_append_157 k c_p0 c_p1 c6 m5)) (ez_append_93 k c_p0 c_p1 c6 m5)) c_p1 c6 m5)) c_p1 m5) (zq_bc (zq_bl c_p1 5) (zq_fo (zq_rd m5 (Nat.add 34 c_p1)) (fun c13 => ez_post (fun c15 m16 => k m16) 6 c_p1 c_p0 c13 0 0 m5)) false)) false))) false) c_p1 c2 m)) (k m)) false
theorem sz_append {pl sg : Nat → Nat → Int32} (H : zq_H pl sg) {post : St2 → Prop} {k : Nat → Bool} (hk : ∀ (u : St2) (m : Nat), zq_R pl sg m u → k m = true → post u) {p0 : Int32} {c_p0 : Nat} (h_p0 : p0 = nI c_p0) {p1 : Int32} {c_p1 : Nat} (h_p1 : p1 = nI c_p1) {u : St2} {m : Nat} (hR : zq_R pl sg m u) (h : ez_append k c_p0 c_p1 m = true) : wpX_append post u p0 p1 := by
  obtain ⟨f0_first, f0_waiting, f0_holder, f0_wrong, a1, a2, a3, a4, a5, a6, a7, a8, a9, a10, a11, a12, a13, a14, a15, a16, a17⟩ := u
  unfold wpX_append
  unfold ez_append at h
  refine zq_vi h_p1 h (fun q1 h => ?_)
  refine zq_br (zq_cle (zq_g4 hR h_p1 q1) (zq_gm3 hR)) h (fun h => ?_) (fun h => ?_)
  · obtain ⟨c2, ec2, h⟩ := zq_fo_e h
    have hf3 := zq_tr (zq_gm3 hR) ec2
    refine sz_enterTerm H ?_ h_p1 hf3 hR h
    intro u m4 hR h
    obtain ⟨f0_first_4, f0_waiting_5, f0_holder_6, f0_wrong_7, am241_10, am242_13, am243_16, am244_19, am245_22, am246_25, am247_28, am248_31, am249_34, am2410_37, am2411_40, am2412_43, am2413_46, am2414_49, am2415_52, am2416_55, am2417_58⟩ := u
    refine zq_st3 hR h_p1 (rfl : (0 : Int32) = nI 0) h (fun am243_60 m5 hR h => ?_)
    refine zq_le_t h (zq_gm4 hR) (fun x3_61 c6 hc6 h => ?_)
    refine zq_vi h_p1 h (fun q7 h => ?_)
    refine zq_br (zq_cle (zq_g7 hR h_p1 q7) hc6) h (fun h => ?_) (fun h => ?_)
    · refine sz_lastOf H ?_ h_p1 hR h
      intro r_64 c8 hc8 h
      refine zq_br (zq_clt hc8 hc6) h (fun h => ?_) (fun h => ?_)
      · exact sz_append_93 H hk h_p0 h_p1 hc6 hR h
      · refine sz_termAt H ?_ h_p1 hc6 hR h
        intro r_125 c9 hc9 h
        refine zq_br (zq_ceq hc9 (zq_gm5 hR)) h (fun h => ?_) (fun h => ?_)
        · refine zq_br (zq_ceq (zq_gm7 hR) (rfl : (1 : Int32) = nI 1)) h (fun h => ?_) (fun h => ?_)
          · refine zq_le_t h (zq_xad hc6 (rfl : (1 : Int32) = nI 1)) (fun x4_241 c10 hc10 h => ?_)
            refine sz_takeEntry H ?_ h_p1 hc10 hR h
            intro u m11 hR h
            obtain ⟨f0_first_243, f0_waiting_244, f0_holder_245, f0_wrong_246, am1541_249, am1542_252, am1543_255, am1544_258, am1545_261, am1546_264, am1547_267, am1548_270, am1549_273, am15410_276, am15411_279, am15412_282, am15413_285, am15414_288, am15415_291, am15416_294, am15417_297⟩ := u
            exact sz_append_157 H hk h_p0 h_p1 hc10 hR h
          · exact sz_append_157 H hk h_p0 h_p1 hc6 hR h
        · exact sz_append_93 H hk h_p0 h_p1 hc6 hR h
    · refine zq_vi h_p1 h (fun q12 h => ?_)
      obtain ⟨c13, ec13, h⟩ := zq_fo_e h
      have hf14 := zq_tr (zq_g7 hR h_p1 q12) ec13
      refine sz_post H ?_ (rfl : (6 : Int32) = nI 6) h_p1 h_p0 hf14 (rfl : (0 : Int32) = nI 0) (rfl : (0 : Int32) = nI 0) hR h
      intro r_299 c15 u m16 hc15 hR h
      obtain ⟨f0_first_300, f0_waiting_301, f0_holder_302, f0_wrong_303, am641_306, am642_309, am643_312, am644_315, am645_318, am646_321, am647_324, am648_327, am649_330, am6410_333, am6411_336, am6412_339, am6413_342, am6414_345, am6415_348, am6416_351, am6417_354⟩ := u
      exact hk _ _ hR h
  · exact hk _ _ hR h
noncomputable def ez_isUpToDate (k : Nat → Bool) (c_p0 : Nat) (m : Nat) : Bool := ez_lastOf (fun c1 => ez_termAt (fun c2 => zq_bc (zq_lt c2 (zq_rd m 119)) (k 1) (zq_bc (zq_eq (zq_rd m 119) c2) (ez_lastOf (fun c3 => zq_bc (zq_lt (zq_rd m 118) c3) (k 0) (k 1)) c_p0 m) (k 0))) c_p0 c1 m) c_p0 m
theorem sz_isUpToDate {pl sg : Nat → Nat → Int32} (H : zq_H pl sg) {post : Int32 → Prop} {k : Nat → Bool} (hk : ∀ (x : Int32) (c : Nat), x = nI c → k c = true → post x) {p0 : Int32} {c_p0 : Nat} (h_p0 : p0 = nI c_p0) {u : St2} {m : Nat} (hR : zq_R pl sg m u) (h : ez_isUpToDate k c_p0 m = true) : wpX_isUpToDate post u p0 := by
  obtain ⟨f0_first, f0_waiting, f0_holder, f0_wrong, a1, a2, a3, a4, a5, a6, a7, a8, a9, a10, a11, a12, a13, a14, a15, a16, a17⟩ := u
  unfold wpX_isUpToDate
  unfold ez_isUpToDate at h
  refine sz_lastOf H ?_ h_p0 hR h
  intro r_1 c1 hc1 h
  refine sz_termAt H ?_ h_p0 hc1 hR h
  intro r_2 c2 hc2 h
  refine zq_br (zq_clt hc2 (zq_gm5 hR)) h (fun h => ?_) (fun h => ?_)
  · exact hk _ _ (rfl : (1 : Int32) = nI 1) h
  · refine zq_br (zq_ceq (zq_gm5 hR) hc2) h (fun h => ?_) (fun h => ?_)
    · refine sz_lastOf H ?_ h_p0 hR h
      intro r_5 c3 hc3 h
      refine zq_br (zq_clt (zq_gm4 hR) hc3) h (fun h => ?_) (fun h => ?_)
      · exact hk _ _ (rfl : (0 : Int32) = nI 0) h
      · exact hk _ _ (rfl : (1 : Int32) = nI 1) h
    · exact hk _ _ (rfl : (0 : Int32) = nI 0) h
noncomputable def ez_elect_35 (k : Nat → Bool) (c_x1 : Nat) (c_x2 : Nat) (c_z0 : Nat) (m : Nat) : Bool := zq_bc (zq_bl c_x2 5) (zq_bc (zq_eq (zq_rd m 117) (zq_rd m (Nat.add 19 c_x2))) (zq_bc (zq_eq c_z0 0) (k m) (ez_isUpToDate (fun c2 => zq_bc (zq_eq c2 0) (k m) (zq_bc (zq_bl c_x2 5) (zq_fo (zq_wr m (Nat.add 24 c_x2) c_x1) (fun m3 => ez_post (fun c4 m5 => k m5) 4 c_x2 c_x1 0 0 0 m3)) false)) c_x2 m)) (k m)) false
theorem sz_elect_35 {pl sg : Nat → Nat → Int32} (H : zq_H pl sg) {post : St2 → Prop} {k : Nat → Bool} (hk : ∀ (u : St2) (m : Nat), zq_R pl sg m u → k m = true → post u) {f0_first : Int32} {f0_waiting : Int32} {f0_holder : Int32} {f0_wrong : Int32} {am81 : Nat → Int32} {am82 : Nat → Int32} {am83 : Nat → Int32} {am84 : Nat → Int32} {am85 : Nat → Int32} {am86 : Nat → Int32} {am87 : Nat → Int32} {am88 : Nat → Int32} {am89 : Nat → Int32} {am810 : Nat → Int32} {am811 : Nat → Int32} {am812 : Nat → Int32} {am813 : Nat → Int32} {am814 : Nat → Int32} {am815 : Nat → Int32} {am816 : Nat → Int32} {am817 : Nat → Int32} {x1 : Int32} {c_x1 : Nat} (h_x1 : x1 = nI c_x1) {x2 : Int32} {c_x2 : Nat} (h_x2 : x2 = nI c_x2) {z0 : Int32} {c_z0 : Nat} (h_z0 : z0 = nI c_z0) {m : Nat} (hR : zq_R pl sg m (f0_first, f0_waiting, f0_holder, f0_wrong, am81, am82, am83, am84, am85, am86, am87, am88, am89, am810, am811, am812, am813, am814, am815, am816, am817)) (h : ez_elect_35 k c_x1 c_x2 c_z0 m = true) : wX_elect_35 post x1 x2 z0 f0_first f0_waiting f0_holder f0_wrong am81 am82 am83 am84 am85 am86 am87 am88 am89 am810 am811 am812 am813 am814 am815 am816 am817 := by
  unfold wX_elect_35
  unfold ez_elect_35 at h
  refine zq_vi h_x2 h (fun q1 h => ?_)
  refine zq_br (zq_ceq (zq_gm3 hR) (zq_g4 hR h_x2 q1)) h (fun h => ?_) (fun h => ?_)
  · refine zq_br (zq_ceq h_z0 (rfl : (0 : Int32) = nI 0)) h (fun h => ?_) (fun h => ?_)
    · exact hk _ _ hR h
    · refine sz_isUpToDate H ?_ h_x2 hR h
      intro r_62 c2 hc2 h
      refine zq_br (zq_ceq hc2 (rfl : (0 : Int32) = nI 0)) h (fun h => ?_) (fun h => ?_)
      · exact hk _ _ hR h
      · refine zq_st5 hR h_x2 h_x1 h (fun am85_65 m3 hR h => ?_)
        refine sz_post H ?_ (rfl : (4 : Int32) = nI 4) h_x2 h_x1 (rfl : (0 : Int32) = nI 0) (rfl : (0 : Int32) = nI 0) (rfl : (0 : Int32) = nI 0) hR h
        intro r_66 c4 u m5 hc4 hR h
        obtain ⟨f0_first_67, f0_waiting_68, f0_holder_69, f0_wrong_70, am771_73, am772_76, am773_79, am774_82, am775_85, am776_88, am777_91, am778_94, am779_97, am7710_100, am7711_103, am7712_106, am7713_109, am7714_112, am7715_115, am7716_118, am7717_121⟩ := u
        exact hk _ _ hR h
  · exact hk _ _ hR h
noncomputable def ez_elect_30 (k : Nat → Bool) (c_x1 : Nat) (c_x2 : Nat) (m : Nat) : Bool := ez_elect_35 k c_x1 c_x2 1 m
theorem sz_elect_30 {pl sg : Nat → Nat → Int32} (H : zq_H pl sg) {post : St2 → Prop} {k : Nat → Bool} (hk : ∀ (u : St2) (m : Nat), zq_R pl sg m u → k m = true → post u) {f0_first : Int32} {f0_waiting : Int32} {f0_holder : Int32} {f0_wrong : Int32} {am81 : Nat → Int32} {am82 : Nat → Int32} {am83 : Nat → Int32} {am84 : Nat → Int32} {am85 : Nat → Int32} {am86 : Nat → Int32} {am87 : Nat → Int32} {am88 : Nat → Int32} {am89 : Nat → Int32} {am810 : Nat → Int32} {am811 : Nat → Int32} {am812 : Nat → Int32} {am813 : Nat → Int32} {am814 : Nat → Int32} {am815 : Nat → Int32} {am816 : Nat → Int32} {am817 : Nat → Int32} {x1 : Int32} {c_x1 : Nat} (h_x1 : x1 = nI c_x1) {x2 : Int32} {c_x2 : Nat} (h_x2 : x2 = nI c_x2) {m : Nat} (hR : zq_R pl sg m (f0_first, f0_waiting, f0_holder, f0_wrong, am81, am82, am83, am84, am85, am86, am87, am88, am89, am810, am811, am812, am813, am814, am815, am816, am817)) (h : ez_elect_30 k c_x1 c_x2 m = true) : wX_elect_30 post x1 x2 f0_first f0_waiting f0_holder f0_wrong am81 am82 am83 am84 am85 am86 am87 am88 am89 am810 am811 am812 am813 am814 am815 am816 am817 := by
  unfold wX_elect_30
  unfold ez_elect_30 at h
  exact sz_elect_35 H hk h_x1 h_x2 (rfl : (1 : Int32) = nI 1) hR h
noncomputable def ez_elect (k : Nat → Bool) (c_p0 : Nat) (c_p1 : Nat) (m : Nat) : Bool := zq_fo (zq_rd m 117) (fun c1 => ez_enterTerm (fun m3 => zq_bc (zq_bl c_p1 5) (zq_bc (zq_lt (zq_rd m3 (Nat.add 24 c_p1)) 0) (ez_elect_30 k c_p0 c_p1 m3) (zq_bc (zq_bl c_p1 5) (zq_bc (zq_eq (zq_rd m3 (Nat.add 24 c_p1)) c_p0) (ez_elect_30 k c_p0 c_p1 m3) (ez_elect_35 k c_p0 c_p1 0 m3)) false)) false) c_p1 c1 m)
theorem sz_elect {pl sg : Nat → Nat → Int32} (H : zq_H pl sg) {post : St2 → Prop} {k : Nat → Bool} (hk : ∀ (u : St2) (m : Nat), zq_R pl sg m u → k m = true → post u) {p0 : Int32} {c_p0 : Nat} (h_p0 : p0 = nI c_p0) {p1 : Int32} {c_p1 : Nat} (h_p1 : p1 = nI c_p1) {u : St2} {m : Nat} (hR : zq_R pl sg m u) (h : ez_elect k c_p0 c_p1 m = true) : wpX_elect post u p0 p1 := by
  obtain ⟨f0_first, f0_waiting, f0_holder, f0_wrong, a1, a2, a3, a4, a5, a6, a7, a8, a9, a10, a11, a12, a13, a14, a15, a16, a17⟩ := u
  unfold wpX_elect
  unfold ez_elect at h
  obtain ⟨c1, ec1, h⟩ := zq_fo_e h
  have hf2 := zq_tr (zq_gm3 hR) ec1
  refine sz_enterTerm H ?_ h_p1 hf2 hR h
  intro u m3 hR h
  obtain ⟨f0_first_2, f0_waiting_3, f0_holder_4, f0_wrong_5, am81_8, am82_11, am83_14, am84_17, am85_20, am86_23, am87_26, am88_29, am89_32, am810_35, am811_38, am812_41, am813_44, am814_47, am815_50, am816_53, am817_56⟩ := u
  refine zq_vi h_p1 h (fun q4 h => ?_)
  refine zq_br (zq_clt (zq_g5 hR h_p1 q4) (rfl : (0 : Int32) = nI 0)) h (fun h => ?_) (fun h => ?_)
  · exact sz_elect_30 H hk h_p0 h_p1 hR h
  · refine zq_vi h_p1 h (fun q5 h => ?_)
    refine zq_br (zq_ceq (zq_g5 hR h_p1 q5) h_p0) h (fun h => ?_) (fun h => ?_)
    · exact sz_elect_30 H hk h_p0 h_p1 hR h
    · exact sz_elect_35 H hk h_p0 h_p1 (rfl : (0 : Int32) = nI 0) hR h
noncomputable def ez_deliver_37 (k : Nat → Bool) (c_x2 : Nat) (c_x3 : Nat) (m : Nat) : Bool := zq_bc (zq_bl c_x3 5) (zq_bc (zq_bl c_x3 5) (zq_fo (zq_wr m (Nat.add 29 c_x3) (Nat.lor (zq_rd m (Nat.add 29 c_x3)) (zq_sh c_x2))) (fun m2 => k m2)) false) false
theorem sz_deliver_37 {pl sg : Nat → Nat → Int32} (H : zq_H pl sg) {post : St2 → Prop} {k : Nat → Bool} (hk : ∀ (u : St2) (m : Nat), zq_R pl sg m u → k m = true → post u) {f0_first : Int32} {f0_waiting : Int32} {f0_holder : Int32} {f0_wrong : Int32} {a1 : Nat → Int32} {a2 : Nat → Int32} {a3 : Nat → Int32} {a4 : Nat → Int32} {a5 : Nat → Int32} {a6 : Nat → Int32} {a7 : Nat → Int32} {a8 : Nat → Int32} {a9 : Nat → Int32} {a10 : Nat → Int32} {a11 : Nat → Int32} {a12 : Nat → Int32} {a13 : Nat → Int32} {a14 : Nat → Int32} {a15 : Nat → Int32} {a16 : Nat → Int32} {a17 : Nat → Int32} {x2 : Int32} {c_x2 : Nat} (h_x2 : x2 = nI c_x2) {x3 : Int32} {c_x3 : Nat} (h_x3 : x3 = nI c_x3) {m : Nat} (hR : zq_R pl sg m (f0_first, f0_waiting, f0_holder, f0_wrong, a1, a2, a3, a4, a5, a6, a7, a8, a9, a10, a11, a12, a13, a14, a15, a16, a17)) (h : ez_deliver_37 k c_x2 c_x3 m = true) : wX_deliver_37 post x2 x3 f0_first f0_waiting f0_holder f0_wrong a1 a2 a3 a4 a5 a6 a7 a8 a9 a10 a11 a12 a13 a14 a15 a16 a17 := by
  unfold wX_deliver_37
  unfold ez_deliver_37 at h
  refine zq_vi h_x3 h (fun q1 h => ?_)
  refine zq_st6 hR h_x3 (zq_xor (zq_g6 hR h_x3 q1) (zq_xsh h_x2)) h (fun a6_5 m2 hR h => ?_)
  exact hk _ _ hR h
noncomputable def ez_deliver (k : Nat → Bool) (c_p0 : Nat) (c_p1 : Nat) (c_p2 : Nat) (m : Nat) : Bool := zq_bc (zq_eq c_p0 1) (ez_isUpToDate (fun c1 => zq_bc (zq_eq c1 0) (k m) (ez_post (fun c2 m3 => k m3) 2 c_p2 c_p1 0 0 0 m)) c_p2 m) (zq_bc (zq_eq c_p0 2) (ez_deliver_37 k c_p1 c_p2 m) (zq_bc (zq_eq c_p0 4) (ez_deliver_37 k c_p1 c_p2 m) (zq_bc (zq_eq c_p0 3) (ez_elect (fun m4 => k m4) c_p1 c_p2 m) (zq_bc (zq_eq c_p0 5) (ez_append (fun m5 => k m5) c_p1 c_p2 m) (zq_bc (zq_eq c_p0 8) (false) (ez_hear (fun m6 => k m6) c_p0 c_p1 c_p2 m))))))
theorem sz_deliver {pl sg : Nat → Nat → Int32} (H : zq_H pl sg) {post : St2 → Prop} {k : Nat → Bool} (hk : ∀ (u : St2) (m : Nat), zq_R pl sg m u → k m = true → post u) {p0 : Int32} {c_p0 : Nat} (h_p0 : p0 = nI c_p0) {p1 : Int32} {c_p1 : Nat} (h_p1 : p1 = nI c_p1) {p2 : Int32} {c_p2 : Nat} (h_p2 : p2 = nI c_p2) {u : St2} {m : Nat} (hR : zq_R pl sg m u) (h : ez_deliver k c_p0 c_p1 c_p2 m = true) : wpX_deliver post u p0 p1 p2 := by
  obtain ⟨f0_first, f0_waiting, f0_holder, f0_wrong, a1, a2, a3, a4, a5, a6, a7, a8, a9, a10, a11, a12, a13, a14, a15, a16, a17⟩ := u
  unfold wpX_deliver
  unfold ez_deliver at h
  refine zq_br (zq_ceq h_p0 (rfl : (1 : Int32) = nI 1)) h (fun h => ?_) (fun h => ?_)
  · refine sz_isUpToDate H ?_ h_p2 hR h
    intro r_234 c1 hc1 h
    refine zq_br (zq_ceq hc1 (rfl : (0 : Int32) = nI 0)) h (fun h => ?_) (fun h => ?_)
    · exact hk _ _ hR h
    · refine sz_post H ?_ (rfl : (2 : Int32) = nI 2) h_p2 h_p1 (rfl : (0 : Int32) = nI 0) (rfl : (0 : Int32) = nI 0) (rfl : (0 : Int32) = nI 0) hR h
      intro r_236 c2 u m3 hc2 hR h
      obtain ⟨f0_first_237, f0_waiting_238, f0_holder_239, f0_wrong_240, am201_243, am202_246, am203_249, am204_252, am205_255, am206_258, am207_261, am208_264, am209_267, am2010_270, am2011_273, am2012_276, am2013_279, am2014_282, am2015_285, am2016_288, am2017_291⟩ := u
      exact hk _ _ hR h
  · refine zq_br (zq_ceq h_p0 (rfl : (2 : Int32) = nI 2)) h (fun h => ?_) (fun h => ?_)
    · exact sz_deliver_37 H hk h_p1 h_p2 hR h
    · refine zq_br (zq_ceq h_p0 (rfl : (4 : Int32) = nI 4)) h (fun h => ?_) (fun h => ?_)
      · exact sz_deliver_37 H hk h_p1 h_p2 hR h
      · refine zq_br (zq_ceq h_p0 (rfl : (3 : Int32) = nI 3)) h (fun h => ?_) (fun h => ?_)
        · refine sz_elect H ?_ h_p1 h_p2 hR h
          intro u m4 hR h
          obtain ⟨f0_first_179, f0_waiting_180, f0_holder_181, f0_wrong_182, am601_185, am602_188, am603_191, am604_194, am605_197, am606_200, am607_203, am608_206, am609_209, am6010_212, am6011_215, am6012_218, am6013_221, am6014_224, am6015_227, am6016_230, am6017_233⟩ := u
          exact hk _ _ hR h
        · refine zq_br (zq_ceq h_p0 (rfl : (5 : Int32) = nI 5)) h (fun h => ?_) (fun h => ?_)
          · refine sz_append H ?_ h_p1 h_p2 hR h
            intro u m5 hR h
            obtain ⟨f0_first_123, f0_waiting_124, f0_holder_125, f0_wrong_126, am741_129, am742_132, am743_135, am744_138, am745_141, am746_144, am747_147, am748_150, am749_153, am7410_156, am7411_159, am7412_162, am7413_165, am7414_168, am7415_171, am7416_174, am7417_177⟩ := u
            exact hk _ _ hR h
          · refine zq_br (zq_ceq h_p0 (rfl : (8 : Int32) = nI 8)) h (fun h => ?_) (fun h => ?_)
            · exact zq_ff h
            · refine sz_hear H ?_ h_p0 h_p1 h_p2 hR h
              intro u m6 hR h
              obtain ⟨f0_first_11, f0_waiting_12, f0_holder_13, f0_wrong_14, am991_17, am992_20, am993_23, am994_26, am995_29, am996_32, am997_35, am998_38, am999_41, am9910_44, am9911_47, am9912_50, am9913_53, am9914_56, am9915_59, am9916_62, am9917_65⟩ := u
              exact hk _ _ hR h
end
section
def zq_cb (m o : Nat) : Nat := Nat.xor m (Nat.shiftLeft (Nat.xor (Nat.mod (Nat.shiftRight m (Nat.mul 32 114)) (Nat.pow 2 288)) (Nat.mod (Nat.shiftRight m (Nat.mul 32 o)) (Nat.pow 2 288))) (Nat.mul 32 114))
theorem zq_cb_rd (m o j : Nat) : zq_rd (zq_cb m o) j = if 114 ≤ j ∧ j < 123 then zq_rd m (o + (j - 114)) else zq_rd m j := by
  apply Nat.eq_of_testBit_eq
  intro t
  have e : zq_cb m o = m ^^^ ((((m >>> (32 * 114)) % 2 ^ 288) ^^^ ((m >>> (32 * o)) % 2 ^ 288)) <<< (32 * 114)) := rfl
  rw [zq_rd_tb, e, Nat.testBit_xor, Nat.testBit_shiftLeft, Nat.testBit_xor, Nat.testBit_mod_two_pow, Nat.testBit_mod_two_pow, Nat.testBit_shiftRight, Nat.testBit_shiftRight]
  by_cases ht : t < 32
  · by_cases hj : 114 ≤ j ∧ j < 123
    · rw [if_pos hj, zq_rd_tb]
      have h1 : 32 * j + t ≥ 32 * 114 := by omega
      have h2 : 32 * j + t - 32 * 114 < 288 := by omega
      have h3 : 32 * 114 + (32 * j + t - 32 * 114) = 32 * j + t := by omega
      have h4 : 32 * o + (32 * j + t - 32 * 114) = 32 * (o + (j - 114)) + t := by omega
      rw [h3, h4, decide_eq_true h1, decide_eq_true h2]
      simp [ht]
    · rw [if_neg hj, zq_rd_tb]
      by_cases hlt : j < 114
      · have h1 : ¬ (32 * j + t ≥ 32 * 114) := by omega
        rw [decide_eq_false h1]
        simp [ht]
      · have h2 : ¬ (32 * j + t - 32 * 114 < 288) := by omega
        rw [decide_eq_false h2]
        simp [ht]
  · by_cases hj : 114 ≤ j ∧ j < 123
    · rw [if_pos hj, zq_rd_tb]
      simp [ht]
    · rw [if_neg hj, zq_rd_tb]
      simp [ht]
theorem zq_S_e {m m' o n : Nat} {a : Nat → Int32} (h : zq_S m o n a) (he : ∀ j, (j < 114 ∨ 123 ≤ j) → zq_rd m' j = zq_rd m j) (ho : o + n ≤ 114 ∨ 123 ≤ o) : zq_S m' o n a := by
  intro i hi
  rw [h i hi, he (Nat.add o i)]
  show o + i < 114 ∨ 123 ≤ o + i
  omega
theorem zq_L_e {pl : Nat → Nat → Int32} {m m' : Nat} {a : Nat → Int32} (h : zq_L pl m a) (he : ∀ j, (j < 114 ∨ 123 ≤ j) → zq_rd m' j = zq_rd m j) : zq_L pl m' a := by
  intro e j h1 h2
  rw [h e j h1 h2, he (123 + e) (by omega)]
theorem zq_A_e {sg : Nat → Nat → Int32} {m m' o : Nat} {a : Nat → Int32} (h : zq_A sg m o a) (he : ∀ j, (j < 114 ∨ 123 ≤ j) → zq_rd m' j = zq_rd m j) (ho : o + 5 ≤ 114) : zq_A sg m' o a := by
  intro n j h1 h2
  rw [h n j h1 h2, he (o + n) (by omega)]
theorem zq_Q_e {pl : Nat → Nat → Int32} {m m' : Nat} {a : Nat → Int32} (h : zq_Q pl m a) (he : ∀ j, (j < 114 ∨ 123 ≤ j) → zq_rd m' j = zq_rd m j) : zq_Q pl m' a := by
  intro s c h1 h2
  rw [h s c h1 h2]
  unfold zq_qc
  by_cases h8 : c < 8
  · rw [if_pos h8, if_pos h8, he (203 + 9 * s + c) (by omega)]
  · rw [if_neg h8, if_neg h8, he (203 + 9 * s + 8) (by omega)]
theorem zq_x17 {pl sg : Nat → Nat → Int32} {m : Nat} {f1 f2 f3 f4 : Int32} {a1 a2 a3 a4 a5 a6 a7 a8 a9 a10 a11 a12 a13 a14 a15 a16 a17 : Nat → Int32} {m' s : Nat} {a' : Nat → Int32} (hR : zq_R pl sg m (f1, f2, f3, f4, a1, a2, a3, a4, a5, a6, a7, a8, a9, a10, a11, a12, a13, a14, a15, a16, a17)) (hm : m' = zq_cb m (203 + 9 * s)) (h0 : s < 64) (ha : ∀ c, c < 15 → a' c = a16 (16 * s + c)) : zq_R pl sg m' (f1, f2, f3, f4, a1, a2, a3, a4, a5, a6, a7, a8, a9, a10, a11, a12, a13, a14, a15, a16, a') := by
  have he : ∀ j, (j < 114 ∨ 123 ≤ j) → zq_rd m' j = zq_rd m j := by
    intro j hj
    rw [hm, zq_cb_rd, if_neg (by omega)]
  have hM : zq_M pl m' a' := by
    intro c hc
    rw [ha c hc, zq_p16 hR s c h0 hc]
    unfold zq_qc
    by_cases h8 : c < 8
    · have e1 : 203 + 9 * s + c = 203 + 9 * s + (114 + c - 114) := by omega
      rw [if_pos h8, if_pos h8, hm, zq_cb_rd, if_pos (by omega), ← e1]
    · rw [if_neg h8, if_neg h8, hm, zq_cb_rd, if_pos (by omega)]
  obtain ⟨r1, r2, r3, r4, r5, r6, r7, r8, r9, r10, r11, r12, r13, r14, r15, r16, r17, r18, r19, r20, r21⟩ := hR
  exact ⟨(r1.trans (congrArg nI (he 0 (by omega)).symm)), (r2.trans (congrArg nI (he 1 (by omega)).symm)), (r3.trans (congrArg nI (he 2 (by omega)).symm)), (r4.trans (congrArg nI (he 3 (by omega)).symm)), (zq_S_e r5 he (by decide)), (zq_S_e r6 he (by decide)), (zq_S_e r7 he (by decide)), (zq_S_e r8 he (by decide)), (zq_S_e r9 he (by decide)), (zq_S_e r10 he (by decide)), (zq_S_e r11 he (by decide)), (zq_S_e r12 he (by decide)), (zq_S_e r13 he (by decide)), (zq_L_e r14 he), (zq_S_e r15 he (by decide)), (zq_A_e r16 he (by decide)), (zq_A_e r17 he (by decide)), (zq_S_e r18 he (by decide)), (zq_S_e r19 he (by decide)), (zq_Q_e r20 he), hM⟩
noncomputable def ez_deliverAll_18x (k : Nat → Bool) (kJ2 : Nat → Nat → Bool) (c_x1 : Nat) (m : Nat) : Bool := zq_fo (zq_ad (zq_rd m 0) 1) (fun c1 => zq_bc (zq_bl c1 2147483648) (zq_fo (Nat.mod c1 64) (fun c4 => zq_fo (zq_sb (zq_rd m 1) 1) (fun c5 => zq_fo (zq_rd m 115) (fun c6 => zq_fo (zq_rd m 116) (fun c8 => zq_fo (zq_wr m 0 c4) (fun m10 => zq_fo (zq_wr m10 1 c5) (fun m11 => ez_areJoined (fun c12 => zq_bc (zq_eq c12 0) (zq_fo (zq_ad c_x1 1) (fun c13 => kJ2 c13 m11)) (zq_fo (zq_rd m11 114) (fun c14 => zq_fo (zq_rd m11 115) (fun c16 => zq_fo (zq_rd m11 116) (fun c18 => ez_deliver (fun m20 => zq_fo (zq_ad c_x1 1) (fun c21 => kJ2 c21 m20)) c14 c16 c18 m11))))) c6 c8 m11))))))) false)
theorem sz_deliverAll_18x {pl sg : Nat → Nat → Int32} (H : zq_H pl sg) {post : St2 → Prop} {k : Nat → Bool} (hk : ∀ (u : St2) (m : Nat), zq_R pl sg m u → k m = true → post u) {f0_first : Int32} {f0_waiting : Int32} {f0_holder : Int32} {f0_wrong : Int32} {a1 : Nat → Int32} {a2 : Nat → Int32} {a3 : Nat → Int32} {a4 : Nat → Int32} {a5 : Nat → Int32} {a6 : Nat → Int32} {a7 : Nat → Int32} {a8 : Nat → Int32} {a9 : Nat → Int32} {a10 : Nat → Int32} {a11 : Nat → Int32} {a12 : Nat → Int32} {a13 : Nat → Int32} {a14 : Nat → Int32} {a15 : Nat → Int32} {a16 : Nat → Int32} {a17 : Nat → Int32} {J2 : Int32 → Int32 → Int32 → Int32 → Int32 → (Nat → Int32) → (Nat → Int32) → (Nat → Int32) → (Nat → Int32) → (Nat → Int32) → (Nat → Int32) → (Nat → Int32) → (Nat → Int32) → (Nat → Int32) → (Nat → Int32) → (Nat → Int32) → (Nat → Int32) → (Nat → Int32) → (Nat → Int32) → (Nat → Int32) → (Nat → Int32) → (Nat → Int32) → Prop} {kJ2 : Nat → Nat → Bool} (hJ2 : ∀ (x1_x : Int32) (x1_c : Nat) (m : Nat) (j_f0_first : Int32) (j_f0_waiting : Int32) (j_f0_holder : Int32) (j_f0_wrong : Int32) (j_a1 : Nat → Int32) (j_a2 : Nat → Int32) (j_a3 : Nat → Int32) (j_a4 : Nat → Int32) (j_a5 : Nat → Int32) (j_a6 : Nat → Int32) (j_a7 : Nat → Int32) (j_a8 : Nat → Int32) (j_a9 : Nat → Int32) (j_a10 : Nat → Int32) (j_a11 : Nat → Int32) (j_a12 : Nat → Int32) (j_a13 : Nat → Int32) (j_a14 : Nat → Int32) (j_a15 : Nat → Int32) (j_a16 : Nat → Int32) (j_a17 : Nat → Int32), x1_x = nI x1_c → zq_R pl sg m (j_f0_first, j_f0_waiting, j_f0_holder, j_f0_wrong, j_a1, j_a2, j_a3, j_a4, j_a5, j_a6, j_a7, j_a8, j_a9, j_a10, j_a11, j_a12, j_a13, j_a14, j_a15, j_a16, j_a17) → kJ2 x1_c m = true → J2 x1_x j_f0_first j_f0_waiting j_f0_holder j_f0_wrong j_a1 j_a2 j_a3 j_a4 j_a5 j_a6 j_a7 j_a8 j_a9 j_a10 j_a11 j_a12 j_a13 j_a14 j_a15 j_a16 j_a17) {x1 : Int32} {c_x1 : Nat} (h_x1 : x1 = nI c_x1) {m : Nat} (hR : zq_R pl sg m (f0_first, f0_waiting, f0_holder, f0_wrong, a1, a2, a3, a4, a5, a6, a7, a8, a9, a10, a11, a12, a13, a14, a15, a16, a17)) (h : ez_deliverAll_18x k kJ2 c_x1 m = true) : ¬ (64 : Int32) = 0 ∧ ∀ f_5 : Int32, f_5 = ((f0_first + 1) - (((f0_first + 1) / 64) * 64)) → (∀ f_6 : Int32, f_6 = (f0_waiting - 1) → (wpX_areJoined (fun r_7 => ((r_7 = 0 → (∀ x1_9 : Int32, x1_9 = (x1 + 1) → (J2 x1_9 f_5 f_6 f0_holder f0_wrong a1 a2 a3 a4 a5 a6 a7 a8 a9 a10 a11 a12 a13 a14 a15 a16 a17))) ∧ (¬ r_7 = 0 → (wpX_deliver (fun u => match u with | (f0_first_11, f0_waiting_12, f0_holder_13, f0_wrong_14, am1111_17, am1112_20, am1113_23, am1114_26, am1115_29, am1116_32, am1117_35, am1118_38, am1119_41, am11110_44, am11111_47, am11112_50, am11113_53, am11114_56, am11115_59, am11116_62, am11117_65) => (∀ x1_66 : Int32, x1_66 = (x1 + 1) → (J2 x1_66 f0_first_11 f0_waiting_12 f0_holder_13 f0_wrong_14 am1111_17 am1112_20 am1113_23 am1114_26 am1115_29 am1116_32 am1117_35 am1118_38 am1119_41 am11110_44 am11111_47 am11112_50 am11113_53 am11114_56 am11115_59 am11116_62 am11117_65))) (f_5, f_6, f0_holder, f0_wrong, a1, a2, a3, a4, a5, a6, a7, a8, a9, a10, a11, a12, a13, a14, a15, a16, a17) (a17 0) (a17 1) (a17 2))))) (f_5, f_6, f0_holder, f0_wrong, a1, a2, a3, a4, a5, a6, a7, a8, a9, a10, a11, a12, a13, a14, a15, a16, a17) (a17 1) (a17 2))) := by
  unfold ez_deliverAll_18x at h
  refine ⟨by decide, ?_⟩
  obtain ⟨c1, ec1, h⟩ := zq_fo_e h
  have hf2 := zq_tr (zq_xad (zq_g_f1 hR) (rfl : (1 : Int32) = nI 1)) ec1
  obtain ⟨q3, h⟩ := zq_bc_s h
  refine zq_le_t h (zq_xrem 64 hf2 q3) (fun f_5 c4 hc4 h => ?_)
  refine zq_le_t h (zq_xsb (zq_g_f2 hR) (rfl : (1 : Int32) = nI 1)) (fun f_6 c5 hc5 h => ?_)
  obtain ⟨c6, ec6, h⟩ := zq_fo_e h
  have hf7 := zq_tr (zq_gm1 hR) ec6
  obtain ⟨c8, ec8, h⟩ := zq_fo_e h
  have hf9 := zq_tr (zq_gm2 hR) ec8
  refine zq_sf1 hR hc4 h (fun m10 hR h => ?_)
  refine zq_sf2 hR hc5 h (fun m11 hR h => ?_)
  refine sz_areJoined H ?_ hf7 hf9 hR h
  intro r_7 c12 hc12 h
  refine zq_br (zq_ceq hc12 (rfl : (0 : Int32) = nI 0)) h (fun h => ?_) (fun h => ?_)
  · refine zq_le_t h (zq_xad h_x1 (rfl : (1 : Int32) = nI 1)) (fun x1_9 c13 hc13 h => ?_)
    exact hJ2 _ _ _ _ _ _ _ _ _ _ _ _ _ _ _ _ _ _ _ _ _ _ _ _ hc13 hR h
  · obtain ⟨c14, ec14, h⟩ := zq_fo_e h
    have hf15 := zq_tr (zq_gm0 hR) ec14
    obtain ⟨c16, ec16, h⟩ := zq_fo_e h
    have hf17 := zq_tr (zq_gm1 hR) ec16
    obtain ⟨c18, ec18, h⟩ := zq_fo_e h
    have hf19 := zq_tr (zq_gm2 hR) ec18
    refine sz_deliver H ?_ hf15 hf17 hf19 hR h
    intro u m20 hR h
    obtain ⟨f0_first_11, f0_waiting_12, f0_holder_13, f0_wrong_14, am1111_17, am1112_20, am1113_23, am1114_26, am1115_29, am1116_32, am1117_35, am1118_38, am1119_41, am11110_44, am11111_47, am11112_50, am11113_53, am11114_56, am11115_59, am11116_62, am11117_65⟩ := u
    refine zq_le_t h (zq_xad h_x1 (rfl : (1 : Int32) = nI 1)) (fun x1_66 c21 hc21 h => ?_)
    exact hJ2 _ _ _ _ _ _ _ _ _ _ _ _ _ _ _ _ _ _ _ _ _ _ _ _ hc21 hR h
noncomputable def ez_deliverAll_18 (k : Nat → Bool) (kJ2 : Nat → Nat → Bool) (c_x1 : Nat) (m : Nat) : Bool := zq_fo (zq_rd m 0) (fun f => zq_bc (zq_bl f 64) (zq_fo (zq_cb m (Nat.add 203 (Nat.mul 9 f))) (fun m2 => ez_deliverAll_18x k kJ2 c_x1 m2)) false)
theorem sz_deliverAll_18 {pl sg : Nat → Nat → Int32} (H : zq_H pl sg) {post : St2 → Prop} {k : Nat → Bool} (hk : ∀ (u : St2) (m : Nat), zq_R pl sg m u → k m = true → post u) {f0_first : Int32} {f0_waiting : Int32} {f0_holder : Int32} {f0_wrong : Int32} {a1 : Nat → Int32} {a2 : Nat → Int32} {a3 : Nat → Int32} {a4 : Nat → Int32} {a5 : Nat → Int32} {a6 : Nat → Int32} {a7 : Nat → Int32} {a8 : Nat → Int32} {a9 : Nat → Int32} {a10 : Nat → Int32} {a11 : Nat → Int32} {a12 : Nat → Int32} {a13 : Nat → Int32} {a14 : Nat → Int32} {a15 : Nat → Int32} {a16 : Nat → Int32} {a17 : Nat → Int32} {J2 : Int32 → Int32 → Int32 → Int32 → Int32 → (Nat → Int32) → (Nat → Int32) → (Nat → Int32) → (Nat → Int32) → (Nat → Int32) → (Nat → Int32) → (Nat → Int32) → (Nat → Int32) → (Nat → Int32) → (Nat → Int32) → (Nat → Int32) → (Nat → Int32) → (Nat → Int32) → (Nat → Int32) → (Nat → Int32) → (Nat → Int32) → (Nat → Int32) → Prop} {kJ2 : Nat → Nat → Bool} (hJ2 : ∀ (x1_x : Int32) (x1_c : Nat) (m : Nat) (j_f0_first : Int32) (j_f0_waiting : Int32) (j_f0_holder : Int32) (j_f0_wrong : Int32) (j_a1 : Nat → Int32) (j_a2 : Nat → Int32) (j_a3 : Nat → Int32) (j_a4 : Nat → Int32) (j_a5 : Nat → Int32) (j_a6 : Nat → Int32) (j_a7 : Nat → Int32) (j_a8 : Nat → Int32) (j_a9 : Nat → Int32) (j_a10 : Nat → Int32) (j_a11 : Nat → Int32) (j_a12 : Nat → Int32) (j_a13 : Nat → Int32) (j_a14 : Nat → Int32) (j_a15 : Nat → Int32) (j_a16 : Nat → Int32) (j_a17 : Nat → Int32), x1_x = nI x1_c → zq_R pl sg m (j_f0_first, j_f0_waiting, j_f0_holder, j_f0_wrong, j_a1, j_a2, j_a3, j_a4, j_a5, j_a6, j_a7, j_a8, j_a9, j_a10, j_a11, j_a12, j_a13, j_a14, j_a15, j_a16, j_a17) → kJ2 x1_c m = true → J2 x1_x j_f0_first j_f0_waiting j_f0_holder j_f0_wrong j_a1 j_a2 j_a3 j_a4 j_a5 j_a6 j_a7 j_a8 j_a9 j_a10 j_a11 j_a12 j_a13 j_a14 j_a15 j_a16 j_a17) {x1 : Int32} {c_x1 : Nat} (h_x1 : x1 = nI c_x1) {m : Nat} (hR : zq_R pl sg m (f0_first, f0_waiting, f0_holder, f0_wrong, a1, a2, a3, a4, a5, a6, a7, a8, a9, a10, a11, a12, a13, a14, a15, a16, a17)) (h : ez_deliverAll_18 k kJ2 c_x1 m = true) : ∃ n, wX_deliverAll_18 post J2 x1 f0_first f0_waiting f0_holder f0_wrong n 0 a1 a2 a3 a4 a5 a6 a7 a8 a9 a10 a11 a12 a13 a14 a15 a16 a17 := by
  unfold ez_deliverAll_18 at h
  obtain ⟨f, ef, h⟩ := zq_fo_e h
  obtain ⟨q1, h⟩ := zq_bc_s h
  obtain ⟨m2, hm, h⟩ := zq_fo_e h
  have q1 := zq_bl_s q1
  have hm : m2 = zq_cb m (203 + 9 * f) := hm
  have hf : f0_first = nI f := zq_tr (zq_g_f1 hR) ef
  refine pk_loop (fun n i s => wX_deliverAll_18 post J2 x1 f0_first f0_waiting f0_holder f0_wrong n (nI i) a1 a2 a3 a4 a5 a6 a7 a8 a9 a10 a11 a12 a13 a14 a15 a16 s) (fun i s => zq_cop a16 (16 * f) a17 0 i s) 16 0 a17 (by decide) zq_cop0 ?_ ?_
  · intro n s hI
    have hR2 := zq_x17 (a' := s) hR hm q1 (fun c hc => by
      have e := zq_copA hI (j := c) (by omega)
      rw [Nat.zero_add] at e
      exact e)
    unfold wX_deliverAll_18
    refine pk_le 16 16 (fun _ => ?_) (fun z => absurd z (by decide))
    exact sz_deliverAll_18x H hk hJ2 h_x1 hR2 h
  · intro n i s hi hI hw
    unfold wX_deliverAll_18
    refine pk_le 16 i (fun z => absurd z (by omega)) (fun _ => ?_)
    have x1 : (16 : Int32) * f0_first + nI i = nI (16 * f + i) := by
      rw [hf]
      show nI 16 * nI f + nI i = _
      rw [pk_mul, nI_add]
    rw [x1, nI_clamp (show 16 * f + i < 2 ^ 31 by omega), nI_clamp (show i < 2 ^ 31 by omega)]
    exact ⟨vp_in_nI (by omega) (by decide), vp_in_nI (by omega) (by decide), nm_e (nm_r (nI_1 i) (hw _ (zq_cop1 hI (Nat.zero_add i).symm rfl)))⟩
noncomputable def ez_deliverAll_2_b (k : Nat → Bool) (ih : Nat → Nat → Bool) (c_x1 : Nat) (m : Nat) : Bool := zq_bc (zq_le 5000 c_x1) (k m) (zq_bc (zq_le (zq_rd m 1) 0) (k m) (ez_deliverAll_18 k ih c_x1 m))
noncomputable def ez_deliverAll_2 (k : Nat → Bool) (n : Nat) : Nat → Nat → Bool := Nat.rec (motive := fun _ => Nat → Nat → Bool) (fun _ _ => false) (fun _ ih => ez_deliverAll_2_b k ih) n
theorem sz_deliverAll_2 {pl sg : Nat → Nat → Int32} (H : zq_H pl sg) {post : St2 → Prop} {k : Nat → Bool} (hk : ∀ (u : St2) (m : Nat), zq_R pl sg m u → k m = true → post u) : ∀ (n : Nat) (x1 : Int32) (c_x1 : Nat) (m : Nat) (f0_first : Int32) (f0_waiting : Int32) (f0_holder : Int32) (f0_wrong : Int32) (a1 : Nat → Int32) (a2 : Nat → Int32) (a3 : Nat → Int32) (a4 : Nat → Int32) (a5 : Nat → Int32) (a6 : Nat → Int32) (a7 : Nat → Int32) (a8 : Nat → Int32) (a9 : Nat → Int32) (a10 : Nat → Int32) (a11 : Nat → Int32) (a12 : Nat → Int32) (a13 : Nat → Int32) (a14 : Nat → Int32) (a15 : Nat → Int32) (a16 : Nat → Int32) (a17 : Nat → Int32), x1 = nI c_x1 → zq_R pl sg m (f0_first, f0_waiting, f0_holder, f0_wrong, a1, a2, a3, a4, a5, a6, a7, a8, a9, a10, a11, a12, a13, a14, a15, a16, a17) → ez_deliverAll_2 k n c_x1 m = true → wX_deliverAll_2 post n x1 f0_first f0_waiting f0_holder f0_wrong a1 a2 a3 a4 a5 a6 a7 a8 a9 a10 a11 a12 a13 a14 a15 a16 a17 := by
  intro n
  induction n with
  | zero =>
    intro x1 c_x1 m f0_first f0_waiting f0_holder f0_wrong a1 a2 a3 a4 a5 a6 a7 a8 a9 a10 a11 a12 a13 a14 a15 a16 a17 h_x1 hR h
    exact zq_ff h
  | succ n ih =>
    intro x1 c_x1 m f0_first f0_waiting f0_holder f0_wrong a1 a2 a3 a4 a5 a6 a7 a8 a9 a10 a11 a12 a13 a14 a15 a16 a17 h_x1 hR h
    have h : ez_deliverAll_2_b k (ez_deliverAll_2 k n) c_x1 m = true := h
    unfold ez_deliverAll_2_b at h
    unfold wX_deliverAll_2
    refine zq_br (zq_cle (rfl : (5000 : Int32) = nI 5000) h_x1) h (fun h => ?_) (fun h => ?_)
    · exact hk _ _ hR h
    · refine zq_br (zq_cle (zq_g_f2 hR) (rfl : (0 : Int32) = nI 0)) h (fun h => ?_) (fun h => ?_)
      · exact hk _ _ hR h
      · exact sz_deliverAll_18 H hk ih h_x1 hR h
noncomputable def ez_deliverAll (k : Nat → Bool) (m : Nat) : Bool := ez_deliverAll_2 k 300 0 m
theorem sz_deliverAll {pl sg : Nat → Nat → Int32} (H : zq_H pl sg) {post : St2 → Prop} {k : Nat → Bool} (hk : ∀ (u : St2) (m : Nat), zq_R pl sg m u → k m = true → post u) {u : St2} {m : Nat} (hR : zq_R pl sg m u) (h : ez_deliverAll k m = true) : wpX_deliverAll post u := by
  obtain ⟨f0_first, f0_waiting, f0_holder, f0_wrong, a1, a2, a3, a4, a5, a6, a7, a8, a9, a10, a11, a12, a13, a14, a15, a16, a17⟩ := u
  unfold wpX_deliverAll
  unfold ez_deliverAll at h
  exact ⟨300, sz_deliverAll_2 H hk 300 _ _ _ _ _ _ _ _ _ _ _ _ _ _ _ _ _ _ _ _ _ _ _ _ (rfl : (0 : Int32) = nI 0) hR h⟩
noncomputable def ez_spread (k : Nat → Bool) (c_p0 : Nat) (m : Nat) : Bool := ez_countMost (fun m1 => ez_sendAll (fun m2 => ez_deliverAll (fun m3 => k m3) m2) c_p0 m1) c_p0 m
theorem sz_spread {pl sg : Nat → Nat → Int32} (H : zq_H pl sg) {post : St2 → Prop} {k : Nat → Bool} (hk : ∀ (u : St2) (m : Nat), zq_R pl sg m u → k m = true → post u) {p0 : Int32} {c_p0 : Nat} (h_p0 : p0 = nI c_p0) {u : St2} {m : Nat} (hR : zq_R pl sg m u) (h : ez_spread k c_p0 m = true) : wpX_spread post u p0 := by
  obtain ⟨f0_first, f0_waiting, f0_holder, f0_wrong, a1, a2, a3, a4, a5, a6, a7, a8, a9, a10, a11, a12, a13, a14, a15, a16, a17⟩ := u
  unfold wpX_spread
  unfold ez_spread at h
  refine sz_countMost H ?_ h_p0 hR h
  intro u m1 hR h
  obtain ⟨f0_first_2, f0_waiting_3, f0_holder_4, f0_wrong_5, am21_8, am22_11, am23_14, am24_17, am25_20, am26_23, am27_26, am28_29, am29_32, am210_35, am211_38, am212_41, am213_44, am214_47, am215_50, am216_53, am217_56⟩ := u
  refine sz_sendAll H ?_ h_p0 hR h
  intro u m2 hR h
  obtain ⟨f0_first_58, f0_waiting_59, f0_holder_60, f0_wrong_61, am71_64, am72_67, am73_70, am74_73, am75_76, am76_79, am77_82, am78_85, am79_88, am710_91, am711_94, am712_97, am713_100, am714_103, am715_106, am716_109, am717_112⟩ := u
  refine sz_deliverAll H ?_ hR h
  intro u m3 hR h
  obtain ⟨f0_first_114, f0_waiting_115, f0_holder_116, f0_wrong_117, am111_120, am112_123, am113_126, am114_129, am115_132, am116_135, am117_138, am118_141, am119_144, am1110_147, am1111_150, am1112_153, am1113_156, am1114_159, am1115_162, am1116_165, am1117_168⟩ := u
  exact hk _ _ hR h
noncomputable def ez_asks_18_b (k : Nat → Nat → Bool) (ih : Nat → Nat → Bool) (c_x1 : Nat) (c_x2 : Nat) (c_x3 : Nat) (c_x4 : Nat) (m : Nat) : Bool := zq_bc (zq_le 5 c_x4) (ez_deliverAll (fun m1 => zq_bc (zq_bl c_x1 5) (zq_fo (zq_rd m1 (Nat.add 29 c_x1)) (fun c3 => ez_isMost (fun c5 => zq_bc (Nat.ble c5 1) (k c5 m1) false) c3 c_x3)) false) m) (zq_bc (zq_eq c_x4 c_x1) (zq_fo (zq_ad c_x4 1) (fun c6 => ih c6 m)) (zq_bc (zq_eq (zq_bit c_x3 c_x4) 1) (ez_lastOf (fun c7 => ez_termAt (fun c8 => ez_post (fun c9 m10 => zq_fo (zq_ad c_x4 1) (fun c11 => ih c11 m10)) c_x2 c_x1 c_x4 c7 c8 0 m) c_x1 c7 m) c_x1 m) (zq_fo (zq_ad c_x4 1) (fun c12 => ih c12 m))))
noncomputable def ez_asks_18 (k : Nat → Nat → Bool) (c_x1 : Nat) (c_x2 : Nat) (c_x3 : Nat) (n : Nat) : Nat → Nat → Bool := Nat.rec (motive := fun _ => Nat → Nat → Bool) (fun _ _ => false) (fun _ ih => ez_asks_18_b k ih c_x1 c_x2 c_x3) n
theorem sz_asks_18 {pl sg : Nat → Nat → Int32} (H : zq_H pl sg) {post : Int32 → St2 → Prop} {k : Nat → Nat → Bool} (hk : ∀ (x : Int32) (c : Nat) (u : St2) (m : Nat), x = nI c → zq_R pl sg m u → k c m = true → post x u) {x1 : Int32} {c_x1 : Nat} (h_x1 : x1 = nI c_x1) {x2 : Int32} {c_x2 : Nat} (h_x2 : x2 = nI c_x2) {x3 : Int32} {c_x3 : Nat} (h_x3 : x3 = nI c_x3) : ∀ (n : Nat) (x4 : Int32) (c_x4 : Nat) (m : Nat) (f0_first : Int32) (f0_waiting : Int32) (f0_holder : Int32) (f0_wrong : Int32) (a1 : Nat → Int32) (a2 : Nat → Int32) (a3 : Nat → Int32) (a4 : Nat → Int32) (a5 : Nat → Int32) (a6 : Nat → Int32) (a7 : Nat → Int32) (a8 : Nat → Int32) (a9 : Nat → Int32) (a10 : Nat → Int32) (a11 : Nat → Int32) (a12 : Nat → Int32) (a13 : Nat → Int32) (a14 : Nat → Int32) (a15 : Nat → Int32) (a16 : Nat → Int32) (a17 : Nat → Int32), x4 = nI c_x4 → zq_R pl sg m (f0_first, f0_waiting, f0_holder, f0_wrong, a1, a2, a3, a4, a5, a6, a7, a8, a9, a10, a11, a12, a13, a14, a15, a16, a17) → ez_asks_18 k c_x1 c_x2 c_x3 n c_x4 m = true → wX_asks_18 post x1 x2 x3 n x4 f0_first f0_waiting f0_holder f0_wrong a1 a2 a3 a4 a5 a6 a7 a8 a9 a10 a11 a12 a13 a14 a15 a16 a17 := by
  intro n
  induction n with
  | zero =>
    intro x4 c_x4 m f0_first f0_waiting f0_holder f0_wrong a1 a2 a3 a4 a5 a6 a7 a8 a9 a10 a11 a12 a13 a14 a15 a16 a17 h_x4 hR h
    exact zq_ff h
  | succ n ih =>
    intro x4 c_x4 m f0_first f0_waiting f0_holder f0_wrong a1 a2 a3 a4 a5 a6 a7 a8 a9 a10 a11 a12 a13 a14 a15 a16 a17 h_x4 hR h
    have h : ez_asks_18_b k (ez_asks_18 k c_x1 c_x2 c_x3 n) c_x1 c_x2 c_x3 c_x4 m = true := h
    unfold ez_asks_18_b at h
    unfold wX_asks_18
    refine zq_br (zq_cle (rfl : (5 : Int32) = nI 5) h_x4) h (fun h => ?_) (fun h => ?_)
    · refine sz_deliverAll H ?_ hR h
      intro u m1 hR h
      obtain ⟨f0_first_6, f0_waiting_7, f0_holder_8, f0_wrong_9, am771_12, am772_15, am773_18, am774_21, am775_24, am776_27, am777_30, am778_33, am779_36, am7710_39, am7711_42, am7712_45, am7713_48, am7714_51, am7715_54, am7716_57, am7717_60⟩ := u
      refine zq_vi h_x1 h (fun q2 h => ?_)
      obtain ⟨c3, ec3, h⟩ := zq_fo_e h
      have hf4 := zq_tr (zq_g6 hR h_x1 q2) ec3
      refine sz_isMost H ?_ hf4 h_x3 h
      intro r_62 c5 hc5 h
      refine zq_nar hc5 h (fun h => ?_)
      exact hk _ _ _ _ hc5 hR h
    · refine zq_br (zq_ceq h_x4 h_x1) h (fun h => ?_) (fun h => ?_)
      · refine zq_le_t h (zq_xad h_x4 (rfl : (1 : Int32) = nI 1)) (fun x4_65 c6 hc6 h => ?_)
        exact ih _ _ _ _ _ _ _ _ _ _ _ _ _ _ _ _ _ _ _ _ _ _ _ _ hc6 hR h
      · refine zq_br (zq_ceq (zq_xbit h_x3 h_x4) (rfl : (1 : Int32) = nI 1)) h (fun h => ?_) (fun h => ?_)
        · refine sz_lastOf H ?_ h_x1 hR h
          intro r_68 c7 hc7 h
          refine sz_termAt H ?_ h_x1 hc7 hR h
          intro r_69 c8 hc8 h
          refine sz_post H ?_ h_x2 h_x1 h_x4 hc7 hc8 (rfl : (0 : Int32) = nI 0) hR h
          intro r_70 c9 u m10 hc9 hR h
          obtain ⟨f0_first_71, f0_waiting_72, f0_holder_73, f0_wrong_74, am661_77, am662_80, am663_83, am664_86, am665_89, am666_92, am667_95, am668_98, am669_101, am6610_104, am6611_107, am6612_110, am6613_113, am6614_116, am6615_119, am6616_122, am6617_125⟩ := u
          refine zq_le_t h (zq_xad h_x4 (rfl : (1 : Int32) = nI 1)) (fun x4_126 c11 hc11 h => ?_)
          exact ih _ _ _ _ _ _ _ _ _ _ _ _ _ _ _ _ _ _ _ _ _ _ _ _ hc11 hR h
        · refine zq_le_t h (zq_xad h_x4 (rfl : (1 : Int32) = nI 1)) (fun x4_67 c12 hc12 h => ?_)
          exact ih _ _ _ _ _ _ _ _ _ _ _ _ _ _ _ _ _ _ _ _ _ _ _ _ hc12 hR h
noncomputable def ez_asks (k : Nat → Nat → Bool) (c_p0 : Nat) (c_p1 : Nat) (m : Nat) : Bool := ez_membersFor (fun c1 => zq_bc (zq_bl c_p0 5) (zq_fo (zq_wr m (Nat.add 29 c_p0) (zq_sh c_p0)) (fun m2 => ez_asks_18 k c_p0 c_p1 c1 300 0 m2)) false) c_p0 m
theorem sz_asks {pl sg : Nat → Nat → Int32} (H : zq_H pl sg) {post : Int32 → St2 → Prop} {k : Nat → Nat → Bool} (hk : ∀ (x : Int32) (c : Nat) (u : St2) (m : Nat), x = nI c → zq_R pl sg m u → k c m = true → post x u) {p0 : Int32} {c_p0 : Nat} (h_p0 : p0 = nI c_p0) {p1 : Int32} {c_p1 : Nat} (h_p1 : p1 = nI c_p1) {u : St2} {m : Nat} (hR : zq_R pl sg m u) (h : ez_asks k c_p0 c_p1 m = true) : wpX_asks post u p0 p1 := by
  obtain ⟨f0_first, f0_waiting, f0_holder, f0_wrong, a1, a2, a3, a4, a5, a6, a7, a8, a9, a10, a11, a12, a13, a14, a15, a16, a17⟩ := u
  unfold wpX_asks
  unfold ez_asks at h
  refine sz_membersFor H ?_ h_p0 hR h
  intro r_1 c1 hc1 h
  refine zq_st6 hR h_p0 (zq_xsh h_p0) h (fun a6_3 m2 hR h => ?_)
  exact ⟨300, sz_asks_18 H hk h_p0 h_p1 hc1 300 _ _ _ _ _ _ _ _ _ _ _ _ _ _ _ _ _ _ _ _ _ _ _ _ (rfl : (0 : Int32) = nI 0) hR h⟩
/-- all seven cells of an entry written -/
theorem zq_L7 {pl : Nat → Nat → Int32} {m m' c t id : Nat} {a : Nat → Int32} {v0 v1 v2 v3 v4 v5 v6 : Int32} (h : zq_L pl m a) (hc : c < 554) (h7 : c % 7 = 0) (ht : t < 65536) (hid : id < 65536) (hm : m' = zq_wr m (123 + c / 7) (t + 65536 * id)) (e0 : v0 = nI t) (e1 : v1 = pl id 1) (e2 : v2 = pl id 2) (e3 : v3 = pl id 3) (e4 : v4 = pl id 4) (e5 : v5 = pl id 5) (e6 : v6 = pl id 6) :
    zq_L pl m' (upd (upd (upd (upd (upd (upd (upd a c v0) (c + 1) v1) (c + 2) v2) (c + 3) v3) (c + 4) v4) (c + 5) v5) (c + 6) v6) := by
  intro e j he hj
  by_cases es : e = c / 7
  · have e9 : zq_rd m' (123 + e) = t + 65536 * id := by
      rw [es, zq_rw_e hm]
      omega
    have ec : 7 * e + j = c + j := by omega
    rw [e9, ec]
    unfold zq_ec
    have d1 : (t + 65536 * id) % 65536 = t := by omega
    have d2 : (t + 65536 * id) / 65536 = id := by omega
    rw [d1, d2]
    have hj7 : j = 0 ∨ j = 1 ∨ j = 2 ∨ j = 3 ∨ j = 4 ∨ j = 5 ∨ j = 6 := by omega
    rcases hj7 with g | g | g | g | g | g | g
    · subst g
      rw [pk_un (by omega), pk_un (by omega), pk_un (by omega), pk_un (by omega), pk_un (by omega), pk_un (by omega), Nat.add_zero, pk_us, if_pos rfl, e0]
    · subst g
      rw [pk_un (by omega), pk_un (by omega), pk_un (by omega), pk_un (by omega), pk_un (by omega), pk_us, if_neg (by decide), e1]
    · subst g
      rw [pk_un (by omega), pk_un (by omega), pk_un (by omega), pk_un (by omega), pk_us, if_neg (by decide), e2]
    · subst g
      rw [pk_un (by omega), pk_un (by omega), pk_un (by omega), pk_us, if_neg (by decide), e3]
    · subst g
      rw [pk_un (by omega), pk_un (by omega), pk_us, if_neg (by decide), e4]
    · subst g
      rw [pk_un (by omega), pk_us, if_neg (by decide), e5]
    · subst g
      rw [pk_us, if_neg (by decide), e6]
  · rw [zq_rw_n hm (j := 123 + e) (by omega), pk_un (by omega), pk_un (by omega), pk_un (by omega), pk_un (by omega), pk_un (by omega), pk_un (by omega), pk_un (by omega)]
    exact h e j he hj
/-- the last three cells of an entry written -/
theorem zq_L3 {pl : Nat → Nat → Int32} {m m' c t id : Nat} {a : Nat → Int32} {v4 v5 v6 : Int32} (h : zq_L pl m a) (hc : c < 554) (h7 : c % 7 = 0) (ht : t < 65536) (hid : id < 60000) (ho : zq_rd m (123 + c / 7) = t + 65536 * (id + 3)) (hm : m' = zq_wr m (123 + c / 7) (t + 65536 * id)) (hh : ∀ j, pl (id + 3) j = if j < 4 then pl id j else 0) (e4 : v4 = pl id 4) (e5 : v5 = pl id 5) (e6 : v6 = pl id 6) :
    zq_L pl m' (upd (upd (upd a (c + 4) v4) (c + 5) v5) (c + 6) v6) := by
  intro e j he hj
  by_cases es : e = c / 7
  · have e9 : zq_rd m' (123 + e) = t + 65536 * id := by
      rw [es, zq_rw_e hm]
      omega
    have ec : 7 * e + j = c + j := by omega
    rw [e9]
    unfold zq_ec
    have d1 : (t + 65536 * id) % 65536 = t := by omega
    have d2 : (t + 65536 * id) / 65536 = id := by omega
    rw [d1, d2]
    by_cases g4 : j = 4
    · subst g4
      rw [ec, pk_un (by omega), pk_un (by omega), pk_us, if_neg (by decide), e4]
    by_cases g5 : j = 5
    · subst g5
      rw [ec, pk_un (by omega), pk_us, if_neg (by decide), e5]
    by_cases g6 : j = 6
    · subst g6
      rw [ec, pk_us, if_neg (by decide), e6]
    rw [pk_un (by omega), pk_un (by omega), pk_un (by omega), h e j he hj, es, ho]
    unfold zq_ec
    have d3 : (t + 65536 * (id + 3)) % 65536 = t := by omega
    have d4 : (t + 65536 * (id + 3)) / 65536 = id + 3 := by omega
    rw [d3, d4]
    by_cases g0 : j = 0
    · rw [if_pos g0, if_pos g0]
    · rw [if_neg g0, if_neg g0, hh j, if_pos (by omega)]
  · rw [zq_rw_n hm (j := 123 + e) (by omega), pk_un (by omega), pk_un (by omega), pk_un (by omega)]
    exact h e j he hj
noncomputable def ez_writeI (k : Nat → Bool) (c_p0 id m : Nat) : Bool :=
  ez_newEntry (fun r m => zq_bc (zq_bl c_p0 5) (zq_bc (zq_bl r 554) (zq_bc (Nat.beq (Nat.mod r 7) 0) (zq_bc (zq_bl (zq_rd m (Nat.add 19 c_p0)) 65536) (zq_bc (zq_bl id 60000)
    (zq_fo (zq_wr m (Nat.add 123 (Nat.div r 7)) (Nat.add (zq_rd m (Nat.add 19 c_p0)) (Nat.mul 65536 id))) (fun m =>
      ez_lastOf (fun l => zq_fo (zq_ad (zq_ml 5 c_p0) c_p0) (fun x => zq_bc (zq_bl x 25) (zq_fo (zq_wr m (Nat.add 89 x) l) k) false)) c_p0 m)) false) false) false) false) false) c_p0 m
theorem sz_writeI {pl sg : Nat → Nat → Int32} (H : zq_H pl sg) {post : St2 → Prop} {k : Nat → Bool} (hk : ∀ (u : St2) (m : Nat), zq_R pl sg m u → k m = true → post u) {id : Nat} {p0 p1 p2 p3 : Int32} {c_p0 : Nat} (h_p0 : p0 = nI c_p0) (e1 : p1 = pl id 1) (e2 : p2 = pl id 2) (e3 : p3 = pl id 3) (e4 : 0 = pl id 4) (e5 : 0 = pl id 5) (e6 : 0 = pl id 6) {u : St2} {m : Nat} (hR : zq_R pl sg m u) (h : ez_writeI k c_p0 id m = true) : wpX_write post u p0 p1 p2 p3 := by
  obtain ⟨f0_first, f0_waiting, f0_holder, f0_wrong, a1, a2, a3, a4, a5, a6, a7, a8, a9, a10, a11, a12, a13, a14, a15, a16, a17⟩ := u
  unfold wpX_write
  unfold ez_writeI at h
  refine sz_newEntry H ?_ h_p0 hR h
  intro r c u m2 hr hR h
  obtain ⟨g1, g2, g3, g4, b1, b2, b3, b4, b5, b6, b7, b8, b9, b10, b11, b12, b13, b14, b15, b16, b17⟩ := u
  obtain ⟨q0, h⟩ := zq_bc_s h
  obtain ⟨q1, h⟩ := zq_bc_s h
  obtain ⟨q2, h⟩ := zq_bc_s h
  obtain ⟨q3, h⟩ := zq_bc_s h
  obtain ⟨q4, h⟩ := zq_bc_s h
  obtain ⟨m3, hm, h⟩ := zq_fo_e h
  have w0 := q0
  have q1 := zq_bl_s q1
  have q2 : c % 7 = 0 := zq_beq_s q2
  have q3 : zq_rd m2 (19 + c_p0) < 65536 := zq_bl_s q3
  have q4 := zq_bl_s q4
  have hm : m3 = zq_wr m2 (123 + c / 7) (zq_rd m2 (19 + c_p0) + 65536 * id) := hm
  have V0 : vp_in p0 5 := by
    rw [h_p0]
    exact vp_in_nI (zq_bl_s q0) (by decide)
  have W0 : vp_in r 560 := by
    rw [hr]
    exact vp_in_nI (by omega) (by decide)
  have V1 := (zq_lcl hr q1 1 (by decide)).2
  have V2 := (zq_lcl hr q1 2 (by decide)).2
  have V3 := (zq_lcl hr q1 3 (by decide)).2
  have V4 := (zq_lcl hr q1 4 (by decide)).2
  have V5 := (zq_lcl hr q1 5 (by decide)).2
  have V6 := (zq_lcl hr q1 6 (by decide)).2
  have C0 : r.toNatClampNeg = c := by
    rw [hr]
    exact nI_clamp (by omega)
  have C1 : (r + 1).toNatClampNeg = c + 1 := (zq_lcl hr q1 1 (by decide)).1
  have C2 : (r + 2).toNatClampNeg = c + 2 := (zq_lcl hr q1 2 (by decide)).1
  have C3 : (r + 3).toNatClampNeg = c + 3 := (zq_lcl hr q1 3 (by decide)).1
  have C4 : (r + 4).toNatClampNeg = c + 4 := (zq_lcl hr q1 4 (by decide)).1
  have C5 : (r + 5).toNatClampNeg = c + 5 := (zq_lcl hr q1 5 (by decide)).1
  have C6 : (r + 6).toNatClampNeg = c + 6 := (zq_lcl hr q1 6 (by decide)).1
  have T : b4 p0.toNatClampNeg = nI (zq_rd m2 (19 + c_p0)) := zq_g4 hR h_p0 w0
  refine ⟨V0, W0, ?_⟩
  intro d0 z0
  refine ⟨V1, ?_⟩
  intro d1 z1
  refine ⟨V2, ?_⟩
  intro d2 z2
  refine ⟨V3, ?_⟩
  intro d3 z3
  refine ⟨V4, ?_⟩
  intro d4 z4
  refine ⟨V5, ?_⟩
  intro d5 z5
  refine ⟨V6, ?_⟩
  intro d6 z6
  have hL : zq_L pl m3 d6 := by
    rw [z6, z5, z4, z3, z2, z1, z0, C0, C1, C2, C3, C4, C5, C6]
    exact zq_L7 (zq_p10 hR) q1 q2 q3 (by omega) hm T e1 e2 e3 e4 e5 e6
  have hR := zq_x10 hR hm (by omega) (by omega) hL
  refine sz_lastOf H ?_ h_p0 hR h
  intro l cl hl h
  obtain ⟨x, ex, h⟩ := zq_fo_e h
  refine zq_st15 hR (zq_tr (zq_xad (zq_xml (rfl : (5 : Int32) = nI 5) h_p0) h_p0) ex) hl h (fun a' m' hR h => ?_)
  exact hk _ _ hR h
noncomputable def ez_write (k : Nat → Bool) (c_p0 c_p1 c_p2 c_p3 m : Nat) : Bool :=
  zq_bc (Nat.beq c_p2 0) (zq_bc (Nat.beq c_p1 3) (zq_bc (Nat.beq c_p3 0) (ez_writeI k c_p0 3 m) false) (zq_bc (Nat.beq c_p1 5) (zq_bc (zq_bl c_p3 5) (ez_writeI k c_p0 (Nat.add 16 c_p3) m) false) false)) false
theorem sz_write {pl sg : Nat → Nat → Int32} (H : zq_H pl sg) {post : St2 → Prop} {k : Nat → Bool} (hk : ∀ (u : St2) (m : Nat), zq_R pl sg m u → k m = true → post u) {p0 : Int32} {c_p0 : Nat} (h_p0 : p0 = nI c_p0) {p1 : Int32} {c_p1 : Nat} (h_p1 : p1 = nI c_p1) {p2 : Int32} {c_p2 : Nat} (h_p2 : p2 = nI c_p2) {p3 : Int32} {c_p3 : Nat} (h_p3 : p3 = nI c_p3) {u : St2} {m : Nat} (hR : zq_R pl sg m u) (h : ez_write k c_p0 c_p1 c_p2 c_p3 m = true) : wpX_write post u p0 p1 p2 p3 := by
  unfold ez_write at h
  obtain ⟨q0, h1⟩ := zq_bc_s h
  have q0 := zq_beq_s q0
  subst q0
  rcases zq_bc_b h1 with ⟨q1, h2⟩ | ⟨_, h2⟩
  · obtain ⟨q2, h3⟩ := zq_bc_s h2
    have q1 := zq_beq_s q1
    have q2 := zq_beq_s q2
    subst q1
    subst q2
    have g := zq_H3 H
    exact sz_writeI H hk h_p0 (h_p1.trans (g 1).symm) (h_p2.trans (g 2).symm) (h_p3.trans (g 3).symm) (g 4).symm (g 5).symm (g 6).symm hR h3
  · obtain ⟨q1, h3⟩ := zq_bc_s h2
    obtain ⟨q2, h4⟩ := zq_bc_s h3
    have q1 := zq_beq_s q1
    have q2 := zq_bl_s q2
    subst q1
    have g := fun j => zq_H16 H c_p3 j q2
    exact sz_writeI H hk h_p0 (h_p1.trans (g 1).symm) (h_p2.trans (g 2).symm) (h_p3.trans (g 3).symm) (g 4).symm (g 5).symm (g 6).symm hR h4
noncomputable def ez_lead_14_b (k : Nat → Bool) (ih : Nat → Nat → Bool) (c_x1 : Nat) (c_x2 : Nat) (m : Nat) : Bool := zq_bc (zq_le 5 c_x2) (ez_write (fun m1 => k m1) c_x1 3 0 0 m) (ez_lastOf (fun c2 => zq_fo (zq_ad (zq_ml 5 c_x1) c_x2) (fun c3 => zq_bc (zq_bl c3 25) (zq_fo (zq_wr m (Nat.add 64 c3) (zq_ad c2 1)) (fun m5 => zq_bc (zq_bl c3 25) (zq_fo (zq_wr m5 (Nat.add 89 c3) 0) (fun m7 => zq_fo (zq_ad c_x2 1) (fun c8 => ih c8 m7))) false)) false)) c_x1 m)
noncomputable def ez_lead_14 (k : Nat → Bool) (c_x1 : Nat) (n : Nat) : Nat → Nat → Bool := Nat.rec (motive := fun _ => Nat → Nat → Bool) (fun _ _ => false) (fun _ ih => ez_lead_14_b k ih c_x1) n
theorem sz_lead_14 {pl sg : Nat → Nat → Int32} (H : zq_H pl sg) {post : St2 → Prop} {k : Nat → Bool} (hk : ∀ (u : St2) (m : Nat), zq_R pl sg m u → k m = true → post u) {f0_first : Int32} {f0_waiting : Int32} {f0_holder : Int32} {f0_wrong : Int32} {x1 : Int32} {c_x1 : Nat} (h_x1 : x1 = nI c_x1) : ∀ (n : Nat) (x2 : Int32) (c_x2 : Nat) (m : Nat) (a1 : Nat → Int32) (a2 : Nat → Int32) (a3 : Nat → Int32) (a4 : Nat → Int32) (a5 : Nat → Int32) (a6 : Nat → Int32) (a7 : Nat → Int32) (a8 : Nat → Int32) (a9 : Nat → Int32) (a10 : Nat → Int32) (a11 : Nat → Int32) (a12 : Nat → Int32) (a13 : Nat → Int32) (a14 : Nat → Int32) (a15 : Nat → Int32) (a16 : Nat → Int32) (a17 : Nat → Int32), x2 = nI c_x2 → zq_R pl sg m (f0_first, f0_waiting, f0_holder, f0_wrong, a1, a2, a3, a4, a5, a6, a7, a8, a9, a10, a11, a12, a13, a14, a15, a16, a17) → ez_lead_14 k c_x1 n c_x2 m = true → wX_lead_14 post x1 f0_first f0_waiting f0_holder f0_wrong n x2 a1 a2 a3 a4 a5 a6 a7 a8 a9 a10 a11 a12 a13 a14 a15 a16 a17 := by
  intro n
  induction n with
  | zero =>
    intro x2 c_x2 m a1 a2 a3 a4 a5 a6 a7 a8 a9 a10 a11 a12 a13 a14 a15 a16 a17 h_x2 hR h
    exact zq_ff h
  | succ n ih =>
    intro x2 c_x2 m a1 a2 a3 a4 a5 a6 a7 a8 a9 a10 a11 a12 a13 a14 a15 a16 a17 h_x2 hR h
    have h : ez_lead_14_b k (ez_lead_14 k c_x1 n) c_x1 c_x2 m = true := h
    unfold ez_lead_14_b at h
    unfold wX_lead_14
    refine zq_br (zq_cle (rfl : (5 : Int32) = nI 5) h_x2) h (fun h => ?_) (fun h => ?_)
    · refine sz_write H ?_ h_x1 (rfl : (3 : Int32) = nI 3) (rfl : (0 : Int32) = nI 0) (rfl : (0 : Int32) = nI 0) hR h
      intro u m1 hR h
      obtain ⟨f0_first_5, f0_waiting_6, f0_holder_7, f0_wrong_8, am581_11, am582_14, am583_17, am584_20, am585_23, am586_26, am587_29, am588_32, am589_35, am5810_38, am5811_41, am5812_44, am5813_47, am5814_50, am5815_53, am5816_56, am5817_59⟩ := u
      exact hk _ _ hR h
    · refine sz_lastOf H ?_ h_x1 hR h
      intro r_60 c2 hc2 h
      obtain ⟨c3, ec3, h⟩ := zq_fo_e h
      have hf4 := zq_tr (zq_xad (zq_xml (rfl : (5 : Int32) = nI 5) h_x1) h_x2) ec3
      refine zq_st14 hR hf4 (zq_xad hc2 (rfl : (1 : Int32) = nI 1)) h (fun a14_62 m5 hR h => ?_)
      have hf6 := zq_tr (zq_xad (zq_xml (rfl : (5 : Int32) = nI 5) h_x1) h_x2) ec3
      refine zq_st15 hR hf6 (rfl : (0 : Int32) = nI 0) h (fun a15_64 m7 hR h => ?_)
      refine zq_le_t h (zq_xad h_x2 (rfl : (1 : Int32) = nI 1)) (fun x2_65 c8 hc8 h => ?_)
      exact ih _ _ _ _ _ _ _ _ _ _ _ _ _ _ _ _ _ _ _ _ hc8 hR h
noncomputable def ez_lead (k : Nat → Bool) (c_p0 : Nat) (m : Nat) : Bool := zq_bc (zq_bl c_p0 5) (zq_fo (zq_wr m (Nat.add 14 c_p0) 1) (fun m1 => zq_fo (zq_wr m1 2 4294967295) (fun m2 => ez_lead_14 k c_p0 300 0 m2))) false
theorem sz_lead {pl sg : Nat → Nat → Int32} (H : zq_H pl sg) {post : St2 → Prop} {k : Nat → Bool} (hk : ∀ (u : St2) (m : Nat), zq_R pl sg m u → k m = true → post u) {p0 : Int32} {c_p0 : Nat} (h_p0 : p0 = nI c_p0) {u : St2} {m : Nat} (hR : zq_R pl sg m u) (h : ez_lead k c_p0 m = true) : wpX_lead post u p0 := by
  obtain ⟨f0_first, f0_waiting, f0_holder, f0_wrong, a1, a2, a3, a4, a5, a6, a7, a8, a9, a10, a11, a12, a13, a14, a15, a16, a17⟩ := u
  unfold wpX_lead
  unfold ez_lead at h
  refine zq_st3 hR h_p0 (rfl : (1 : Int32) = nI 1) h (fun a3_2 m1 hR h => ?_)
  refine zq_sf3 hR zq_m1 h (fun m2 hR h => ?_)
  exact ⟨300, sz_lead_14 H hk h_p0 300 _ _ _ _ _ _ _ _ _ _ _ _ _ _ _ _ _ _ _ _ (rfl : (0 : Int32) = nI 0) hR h⟩
noncomputable def ez_stands (k : Nat → Nat → Bool) (c_p0 : Nat) (m : Nat) : Bool := zq_bc (zq_bl c_p0 5) (zq_bc (zq_eq (zq_rd m (Nat.add 4 c_p0)) 0) (k 0 m) (ez_membersFor (fun c2 => zq_bc (zq_eq (zq_bit c2 c_p0) 0) (k 0 m) (ez_asks (fun c3 m4 => zq_bc (zq_eq c3 0) (k 0 m4) (zq_bc (zq_bl c_p0 5) (zq_bc (zq_bl c_p0 5) (zq_fo (zq_wr m4 (Nat.add 19 c_p0) (zq_ad (zq_rd m4 (Nat.add 19 c_p0)) 1)) (fun m6 => zq_bc (zq_bl c_p0 5) (zq_fo (zq_wr m6 (Nat.add 24 c_p0) c_p0) (fun m7 => ez_asks (fun c8 m9 => zq_bc (zq_eq c8 0) (k 0 m9) (ez_lead (fun m10 => k 1 m10) c_p0 m9)) c_p0 3 m7)) false)) false) false)) c_p0 1 m)) c_p0 m)) false
theorem sz_stands {pl sg : Nat → Nat → Int32} (H : zq_H pl sg) {post : Int32 → St2 → Prop} {k : Nat → Nat → Bool} (hk : ∀ (x : Int32) (c : Nat) (u : St2) (m : Nat), x = nI c → zq_R pl sg m u → k c m = true → post x u) {p0 : Int32} {c_p0 : Nat} (h_p0 : p0 = nI c_p0) {u : St2} {m : Nat} (hR : zq_R pl sg m u) (h : ez_stands k c_p0 m = true) : wpX_stands post u p0 := by
  obtain ⟨f0_first, f0_waiting, f0_holder, f0_wrong, a1, a2, a3, a4, a5, a6, a7, a8, a9, a10, a11, a12, a13, a14, a15, a16, a17⟩ := u
  unfold wpX_stands
  unfold ez_stands at h
  refine zq_vi h_p0 h (fun q1 h => ?_)
  refine zq_br (zq_ceq (zq_g1 hR h_p0 q1) (rfl : (0 : Int32) = nI 0)) h (fun h => ?_) (fun h => ?_)
  · exact hk _ _ _ _ (rfl : (0 : Int32) = nI 0) hR h
  · refine sz_membersFor H ?_ h_p0 hR h
    intro r_3 c2 hc2 h
    refine zq_br (zq_ceq (zq_xbit hc2 h_p0) (rfl : (0 : Int32) = nI 0)) h (fun h => ?_) (fun h => ?_)
    · exact hk _ _ _ _ (rfl : (0 : Int32) = nI 0) hR h
    · refine sz_asks H ?_ h_p0 (rfl : (1 : Int32) = nI 1) hR h
      intro r_5 c3 u m4 hc3 hR h
      obtain ⟨f0_first_6, f0_waiting_7, f0_holder_8, f0_wrong_9, am241_12, am242_15, am243_18, am244_21, am245_24, am246_27, am247_30, am248_33, am249_36, am2410_39, am2411_42, am2412_45, am2413_48, am2414_51, am2415_54, am2416_57, am2417_60⟩ := u
      refine zq_br (zq_ceq hc3 (rfl : (0 : Int32) = nI 0)) h (fun h => ?_) (fun h => ?_)
      · exact hk _ _ _ _ (rfl : (0 : Int32) = nI 0) hR h
      · refine zq_vi h_p0 h (fun q5 h => ?_)
        refine zq_st4 hR h_p0 (zq_xad (zq_g4 hR h_p0 q5) (rfl : (1 : Int32) = nI 1)) h (fun am244_64 m6 hR h => ?_)
        refine zq_st5 hR h_p0 h_p0 h (fun am245_66 m7 hR h => ?_)
        refine sz_asks H ?_ h_p0 (rfl : (3 : Int32) = nI 3) hR h
        intro r_67 c8 u m9 hc8 hR h
        obtain ⟨f0_first_68, f0_waiting_69, f0_holder_70, f0_wrong_71, am521_74, am522_77, am523_80, am524_83, am525_86, am526_89, am527_92, am528_95, am529_98, am5210_101, am5211_104, am5212_107, am5213_110, am5214_113, am5215_116, am5216_119, am5217_122⟩ := u
        refine zq_br (zq_ceq hc8 (rfl : (0 : Int32) = nI 0)) h (fun h => ?_) (fun h => ?_)
        · exact hk _ _ _ _ (rfl : (0 : Int32) = nI 0) hR h
        · refine sz_lead H ?_ h_p0 hR h
          intro u m10 hR h
          obtain ⟨f0_first_125, f0_waiting_126, f0_holder_127, f0_wrong_128, am621_131, am622_134, am623_137, am624_140, am625_143, am626_146, am627_149, am628_152, am629_155, am6210_158, am6211_161, am6212_164, am6213_167, am6214_170, am6215_173, am6216_176, am6217_179⟩ := u
          exact hk _ _ _ _ (rfl : (1 : Int32) = nI 1) hR h
noncomputable def ez_hold_43 (k : Nat → Bool) (kJ2 : Nat → Nat → Bool) (c_x1 : Nat) (c_x2 : Nat) (c_z0 : Nat) (c_z1 : Nat) (m : Nat) : Bool := zq_bc (zq_eq c_z1 c_z0) (ez_stands (fun c1 m2 => zq_bc (zq_eq c1 0) (zq_fo (zq_ad c_x1 1) (fun c3 => kJ2 c3 m2)) (k m2)) c_x2 m) (zq_fo (zq_ad c_x1 1) (fun c4 => kJ2 c4 m))
theorem sz_hold_43 {pl sg : Nat → Nat → Int32} (H : zq_H pl sg) {post : St2 → Prop} {k : Nat → Bool} (hk : ∀ (u : St2) (m : Nat), zq_R pl sg m u → k m = true → post u) {f0_first : Int32} {f0_waiting : Int32} {f0_holder : Int32} {f0_wrong : Int32} {a1 : Nat → Int32} {a2 : Nat → Int32} {a3 : Nat → Int32} {a4 : Nat → Int32} {a5 : Nat → Int32} {a6 : Nat → Int32} {a7 : Nat → Int32} {a8 : Nat → Int32} {a9 : Nat → Int32} {a10 : Nat → Int32} {a11 : Nat → Int32} {a12 : Nat → Int32} {a13 : Nat → Int32} {a14 : Nat → Int32} {a15 : Nat → Int32} {a16 : Nat → Int32} {a17 : Nat → Int32} {J2 : Int32 → Int32 → Int32 → Int32 → Int32 → (Nat → Int32) → (Nat → Int32) → (Nat → Int32) → (Nat → Int32) → (Nat → Int32) → (Nat → Int32) → (Nat → Int32) → (Nat → Int32) → (Nat → Int32) → (Nat → Int32) → (Nat → Int32) → (Nat → Int32) → (Nat → Int32) → (Nat → Int32) → (Nat → Int32) → (Nat → Int32) → (Nat → Int32) → Prop} {kJ2 : Nat → Nat → Bool} (hJ2 : ∀ (x1_x : Int32) (x1_c : Nat) (m : Nat) (j_f0_first : Int32) (j_f0_waiting : Int32) (j_f0_holder : Int32) (j_f0_wrong : Int32) (j_a1 : Nat → Int32) (j_a2 : Nat → Int32) (j_a3 : Nat → Int32) (j_a4 : Nat → Int32) (j_a5 : Nat → Int32) (j_a6 : Nat → Int32) (j_a7 : Nat → Int32) (j_a8 : Nat → Int32) (j_a9 : Nat → Int32) (j_a10 : Nat → Int32) (j_a11 : Nat → Int32) (j_a12 : Nat → Int32) (j_a13 : Nat → Int32) (j_a14 : Nat → Int32) (j_a15 : Nat → Int32) (j_a16 : Nat → Int32) (j_a17 : Nat → Int32), x1_x = nI x1_c → zq_R pl sg m (j_f0_first, j_f0_waiting, j_f0_holder, j_f0_wrong, j_a1, j_a2, j_a3, j_a4, j_a5, j_a6, j_a7, j_a8, j_a9, j_a10, j_a11, j_a12, j_a13, j_a14, j_a15, j_a16, j_a17) → kJ2 x1_c m = true → J2 x1_x j_f0_first j_f0_waiting j_f0_holder j_f0_wrong j_a1 j_a2 j_a3 j_a4 j_a5 j_a6 j_a7 j_a8 j_a9 j_a10 j_a11 j_a12 j_a13 j_a14 j_a15 j_a16 j_a17) {x1 : Int32} {c_x1 : Nat} (h_x1 : x1 = nI c_x1) {x2 : Int32} {c_x2 : Nat} (h_x2 : x2 = nI c_x2) {z0 : Int32} {c_z0 : Nat} (h_z0 : z0 = nI c_z0) {z1 : Int32} {c_z1 : Nat} (h_z1 : z1 = nI c_z1) {m : Nat} (hR : zq_R pl sg m (f0_first, f0_waiting, f0_holder, f0_wrong, a1, a2, a3, a4, a5, a6, a7, a8, a9, a10, a11, a12, a13, a14, a15, a16, a17)) (h : ez_hold_43 k kJ2 c_x1 c_x2 c_z0 c_z1 m = true) : wX_hold_43 post J2 x1 x2 z0 z1 f0_first f0_waiting f0_holder f0_wrong a1 a2 a3 a4 a5 a6 a7 a8 a9 a10 a11 a12 a13 a14 a15 a16 a17 := by
  unfold wX_hold_43
  unfold ez_hold_43 at h
  refine zq_br (zq_ceq h_z1 h_z0) h (fun h => ?_) (fun h => ?_)
  · refine sz_stands H ?_ h_x2 hR h
    intro r_10 c1 u m2 hc1 hR h
    obtain ⟨f0_first_11, f0_waiting_12, f0_holder_13, f0_wrong_14, am481_17, am482_20, am483_23, am484_26, am485_29, am486_32, am487_35, am488_38, am489_41, am4810_44, am4811_47, am4812_50, am4813_53, am4814_56, am4815_59, am4816_62, am4817_65⟩ := u
    refine zq_br (zq_ceq hc1 (rfl : (0 : Int32) = nI 0)) h (fun h => ?_) (fun h => ?_)
    · refine zq_le_t h (zq_xad h_x1 (rfl : (1 : Int32) = nI 1)) (fun x1_67 c3 hc3 h => ?_)
      exact hJ2 _ _ _ _ _ _ _ _ _ _ _ _ _ _ _ _ _ _ _ _ _ _ _ _ hc3 hR h
    · exact hk _ _ hR h
  · refine zq_le_t h (zq_xad h_x1 (rfl : (1 : Int32) = nI 1)) (fun x1_9 c4 hc4 h => ?_)
    exact hJ2 _ _ _ _ _ _ _ _ _ _ _ _ _ _ _ _ _ _ _ _ _ _ _ _ hc4 hR h
noncomputable def ez_hold_31 (k : Nat → Bool) (kJ2 : Nat → Nat → Bool) (c_x1 : Nat) (c_x2 : Nat) (c_z0 : Nat) (m : Nat) : Bool := zq_bc (zq_lt c_x1 5) (ez_hold_43 k kJ2 c_x1 c_x2 0 c_z0 m) (ez_hold_43 k kJ2 c_x1 c_x2 1 c_z0 m)
theorem sz_hold_31 {pl sg : Nat → Nat → Int32} (H : zq_H pl sg) {post : St2 → Prop} {k : Nat → Bool} (hk : ∀ (u : St2) (m : Nat), zq_R pl sg m u → k m = true → post u) {f0_first : Int32} {f0_waiting : Int32} {f0_holder : Int32} {f0_wrong : Int32} {a1 : Nat → Int32} {a2 : Nat → Int32} {a3 : Nat → Int32} {a4 : Nat → Int32} {a5 : Nat → Int32} {a6 : Nat → Int32} {a7 : Nat → Int32} {a8 : Nat → Int32} {a9 : Nat → Int32} {a10 : Nat → Int32} {a11 : Nat → Int32} {a12 : Nat → Int32} {a13 : Nat → Int32} {a14 : Nat → Int32} {a15 : Nat → Int32} {a16 : Nat → Int32} {a17 : Nat → Int32} {J2 : Int32 → Int32 → Int32 → Int32 → Int32 → (Nat → Int32) → (Nat → Int32) → (Nat → Int32) → (Nat → Int32) → (Nat → Int32) → (Nat → Int32) → (Nat → Int32) → (Nat → Int32) → (Nat → Int32) → (Nat → Int32) → (Nat → Int32) → (Nat → Int32) → (Nat → Int32) → (Nat → Int32) → (Nat → Int32) → (Nat → Int32) → (Nat → Int32) → Prop} {kJ2 : Nat → Nat → Bool} (hJ2 : ∀ (x1_x : Int32) (x1_c : Nat) (m : Nat) (j_f0_first : Int32) (j_f0_waiting : Int32) (j_f0_holder : Int32) (j_f0_wrong : Int32) (j_a1 : Nat → Int32) (j_a2 : Nat → Int32) (j_a3 : Nat → Int32) (j_a4 : Nat → Int32) (j_a5 : Nat → Int32) (j_a6 : Nat → Int32) (j_a7 : Nat → Int32) (j_a8 : Nat → Int32) (j_a9 : Nat → Int32) (j_a10 : Nat → Int32) (j_a11 : Nat → Int32) (j_a12 : Nat → Int32) (j_a13 : Nat → Int32) (j_a14 : Nat → Int32) (j_a15 : Nat → Int32) (j_a16 : Nat → Int32) (j_a17 : Nat → Int32), x1_x = nI x1_c → zq_R pl sg m (j_f0_first, j_f0_waiting, j_f0_holder, j_f0_wrong, j_a1, j_a2, j_a3, j_a4, j_a5, j_a6, j_a7, j_a8, j_a9, j_a10, j_a11, j_a12, j_a13, j_a14, j_a15, j_a16, j_a17) → kJ2 x1_c m = true → J2 x1_x j_f0_first j_f0_waiting j_f0_holder j_f0_wrong j_a1 j_a2 j_a3 j_a4 j_a5 j_a6 j_a7 j_a8 j_a9 j_a10 j_a11 j_a12 j_a13 j_a14 j_a15 j_a16 j_a17) {x1 : Int32} {c_x1 : Nat} (h_x1 : x1 = nI c_x1) {x2 : Int32} {c_x2 : Nat} (h_x2 : x2 = nI c_x2) {z0 : Int32} {c_z0 : Nat} (h_z0 : z0 = nI c_z0) {m : Nat} (hR : zq_R pl sg m (f0_first, f0_waiting, f0_holder, f0_wrong, a1, a2, a3, a4, a5, a6, a7, a8, a9, a10, a11, a12, a13, a14, a15, a16, a17)) (h : ez_hold_31 k kJ2 c_x1 c_x2 c_z0 m = true) : wX_hold_31 post J2 x1 x2 z0 f0_first f0_waiting f0_holder f0_wrong a1 a2 a3 a4 a5 a6 a7 a8 a9 a10 a11 a12 a13 a14 a15 a16 a17 := by
  unfold wX_hold_31
  unfold ez_hold_31 at h
  refine zq_br (zq_clt h_x1 (rfl : (5 : Int32) = nI 5)) h (fun h => ?_) (fun h => ?_)
  · exact sz_hold_43 H hk hJ2 h_x1 h_x2 (rfl : (0 : Int32) = nI 0) h_z0 hR h
  · exact sz_hold_43 H hk hJ2 h_x1 h_x2 (rfl : (1 : Int32) = nI 1) h_z0 hR h
noncomputable def ez_hold_2_b (k : Nat → Bool) (ih : Nat → Nat → Bool) (c_x1 : Nat) (m : Nat) : Bool := zq_bc (zq_le 10 c_x1) (k m) (zq_bc (zq_bl c_x1 2147483648) (zq_fo (Nat.mod c_x1 5) (fun c2 => zq_bc (zq_bl c2 5) (ez_lastOf (fun c4 => zq_bc (zq_le c4 (zq_rd m (Nat.add 49 c2))) (ez_hold_31 k ih c_x1 c2 0 m) (ez_hold_31 k ih c_x1 c2 1 m)) c2 m) false)) false)
noncomputable def ez_hold_2 (k : Nat → Bool) (n : Nat) : Nat → Nat → Bool := Nat.rec (motive := fun _ => Nat → Nat → Bool) (fun _ _ => false) (fun _ ih => ez_hold_2_b k ih) n
theorem sz_hold_2 {pl sg : Nat → Nat → Int32} (H : zq_H pl sg) {post : St2 → Prop} {k : Nat → Bool} (hk : ∀ (u : St2) (m : Nat), zq_R pl sg m u → k m = true → post u) : ∀ (n : Nat) (x1 : Int32) (c_x1 : Nat) (m : Nat) (f0_first : Int32) (f0_waiting : Int32) (f0_holder : Int32) (f0_wrong : Int32) (a1 : Nat → Int32) (a2 : Nat → Int32) (a3 : Nat → Int32) (a4 : Nat → Int32) (a5 : Nat → Int32) (a6 : Nat → Int32) (a7 : Nat → Int32) (a8 : Nat → Int32) (a9 : Nat → Int32) (a10 : Nat → Int32) (a11 : Nat → Int32) (a12 : Nat → Int32) (a13 : Nat → Int32) (a14 : Nat → Int32) (a15 : Nat → Int32) (a16 : Nat → Int32) (a17 : Nat → Int32), x1 = nI c_x1 → zq_R pl sg m (f0_first, f0_waiting, f0_holder, f0_wrong, a1, a2, a3, a4, a5, a6, a7, a8, a9, a10, a11, a12, a13, a14, a15, a16, a17) → ez_hold_2 k n c_x1 m = true → wX_hold_2 post n x1 f0_first f0_waiting f0_holder f0_wrong a1 a2 a3 a4 a5 a6 a7 a8 a9 a10 a11 a12 a13 a14 a15 a16 a17 := by
  intro n
  induction n with
  | zero =>
    intro x1 c_x1 m f0_first f0_waiting f0_holder f0_wrong a1 a2 a3 a4 a5 a6 a7 a8 a9 a10 a11 a12 a13 a14 a15 a16 a17 h_x1 hR h
    exact zq_ff h
  | succ n ih =>
    intro x1 c_x1 m f0_first f0_waiting f0_holder f0_wrong a1 a2 a3 a4 a5 a6 a7 a8 a9 a10 a11 a12 a13 a14 a15 a16 a17 h_x1 hR h
    have h : ez_hold_2_b k (ez_hold_2 k n) c_x1 m = true := h
    unfold ez_hold_2_b at h
    unfold wX_hold_2
    refine zq_br (zq_cle (rfl : (10 : Int32) = nI 10) h_x1) h (fun h => ?_) (fun h => ?_)
    · exact hk _ _ hR h
    · refine ⟨by decide, ?_⟩
      obtain ⟨q1, h⟩ := zq_bc_s h
      refine zq_le_t h (zq_xrem 5 h_x1 q1) (fun x2_3 c2 hc2 h => ?_)
      refine zq_vi hc2 h (fun q3 h => ?_)
      refine sz_lastOf H ?_ hc2 hR h
      intro r_5 c4 hc4 h
      refine zq_br (zq_cle hc4 (zq_g11 hR hc2 q3)) h (fun h => ?_) (fun h => ?_)
      · exact sz_hold_31 H hk ih h_x1 hc2 (rfl : (0 : Int32) = nI 0) hR h
      · exact sz_hold_31 H hk ih h_x1 hc2 (rfl : (1 : Int32) = nI 1) hR h
noncomputable def ez_hold (k : Nat → Bool) (m : Nat) : Bool := ez_hold_2 k 300 0 m
theorem sz_hold {pl sg : Nat → Nat → Int32} (H : zq_H pl sg) {post : St2 → Prop} {k : Nat → Bool} (hk : ∀ (u : St2) (m : Nat), zq_R pl sg m u → k m = true → post u) {u : St2} {m : Nat} (hR : zq_R pl sg m u) (h : ez_hold k m = true) : wpX_hold post u := by
  obtain ⟨f0_first, f0_waiting, f0_holder, f0_wrong, a1, a2, a3, a4, a5, a6, a7, a8, a9, a10, a11, a12, a13, a14, a15, a16, a17⟩ := u
  unfold wpX_hold
  unfold ez_hold at h
  exact ⟨300, sz_hold_2 H hk 300 _ _ _ _ _ _ _ _ _ _ _ _ _ _ _ _ _ _ _ _ _ _ _ _ (rfl : (0 : Int32) = nI 0) hR h⟩
noncomputable def ez_settle_22 (k : Nat → Bool) (kJ6 : Nat → Nat → Bool) (c_x1 : Nat) (m : Nat) : Bool := ez_leaderNow (fun c1 => zq_bc (zq_lt c1 0) (zq_fo (zq_ad c_x1 1) (fun c2 => kJ6 c2 m)) (ez_spread (fun m3 => ez_spread (fun m4 => ez_giveUp (fun m5 => zq_fo (zq_ad c_x1 1) (fun c6 => kJ6 c6 m5)) m4) c1 m3) c1 m)) m
theorem sz_settle_22 {pl sg : Nat → Nat → Int32} (H : zq_H pl sg) {post : St2 → Prop} {k : Nat → Bool} (hk : ∀ (u : St2) (m : Nat), zq_R pl sg m u → k m = true → post u) {f0_first : Int32} {f0_waiting : Int32} {f0_holder : Int32} {f0_wrong : Int32} {am11 : Nat → Int32} {am12 : Nat → Int32} {am13 : Nat → Int32} {am14 : Nat → Int32} {am15 : Nat → Int32} {am16 : Nat → Int32} {am17 : Nat → Int32} {am18 : Nat → Int32} {am19 : Nat → Int32} {am110 : Nat → Int32} {am111 : Nat → Int32} {am112 : Nat → Int32} {am113 : Nat → Int32} {am114 : Nat → Int32} {am115 : Nat → Int32} {am116 : Nat → Int32} {am117 : Nat → Int32} {J6 : Int32 → Int32 → Int32 → Int32 → Int32 → (Nat → Int32) → (Nat → Int32) → (Nat → Int32) → (Nat → Int32) → (Nat → Int32) → (Nat → Int32) → (Nat → Int32) → (Nat → Int32) → (Nat → Int32) → (Nat → Int32) → (Nat → Int32) → (Nat → Int32) → (Nat → Int32) → (Nat → Int32) → (Nat → Int32) → (Nat → Int32) → (Nat → Int32) → Prop} {kJ6 : Nat → Nat → Bool} (hJ6 : ∀ (x1_x : Int32) (x1_c : Nat) (m : Nat) (j_f0_first : Int32) (j_f0_waiting : Int32) (j_f0_holder : Int32) (j_f0_wrong : Int32) (j_am11 : Nat → Int32) (j_am12 : Nat → Int32) (j_am13 : Nat → Int32) (j_am14 : Nat → Int32) (j_am15 : Nat → Int32) (j_am16 : Nat → Int32) (j_am17 : Nat → Int32) (j_am18 : Nat → Int32) (j_am19 : Nat → Int32) (j_am110 : Nat → Int32) (j_am111 : Nat → Int32) (j_am112 : Nat → Int32) (j_am113 : Nat → Int32) (j_am114 : Nat → Int32) (j_am115 : Nat → Int32) (j_am116 : Nat → Int32) (j_am117 : Nat → Int32), x1_x = nI x1_c → zq_R pl sg m (j_f0_first, j_f0_waiting, j_f0_holder, j_f0_wrong, j_am11, j_am12, j_am13, j_am14, j_am15, j_am16, j_am17, j_am18, j_am19, j_am110, j_am111, j_am112, j_am113, j_am114, j_am115, j_am116, j_am117) → kJ6 x1_c m = true → J6 x1_x j_f0_first j_f0_waiting j_f0_holder j_f0_wrong j_am11 j_am12 j_am13 j_am14 j_am15 j_am16 j_am17 j_am18 j_am19 j_am110 j_am111 j_am112 j_am113 j_am114 j_am115 j_am116 j_am117) {x1 : Int32} {c_x1 : Nat} (h_x1 : x1 = nI c_x1) {m : Nat} (hR : zq_R pl sg m (f0_first, f0_waiting, f0_holder, f0_wrong, am11, am12, am13, am14, am15, am16, am17, am18, am19, am110, am111, am112, am113, am114, am115, am116, am117)) (h : ez_settle_22 k kJ6 c_x1 m = true) : wX_settle_22 post J6 x1 f0_first f0_waiting f0_holder f0_wrong am11 am12 am13 am14 am15 am16 am17 am18 am19 am110 am111 am112 am113 am114 am115 am116 am117 := by
  unfold wX_settle_22
  unfold ez_settle_22 at h
  refine sz_leaderNow H ?_ hR h
  intro r_60 c1 hc1 h
  refine zq_br (zq_clt hc1 (rfl : (0 : Int32) = nI 0)) h (fun h => ?_) (fun h => ?_)
  · refine zq_le_t h (zq_xad h_x1 (rfl : (1 : Int32) = nI 1)) (fun x1_62 c2 hc2 h => ?_)
    exact hJ6 _ _ _ _ _ _ _ _ _ _ _ _ _ _ _ _ _ _ _ _ _ _ _ _ hc2 hR h
  · refine sz_spread H ?_ hc1 hR h
    intro u m3 hR h
    obtain ⟨f0_first_64, f0_waiting_65, f0_holder_66, f0_wrong_67, am331_70, am332_73, am333_76, am334_79, am335_82, am336_85, am337_88, am338_91, am339_94, am3310_97, am3311_100, am3312_103, am3313_106, am3314_109, am3315_112, am3316_115, am3317_118⟩ := u
    refine sz_spread H ?_ hc1 hR h
    intro u m4 hR h
    obtain ⟨f0_first_120, f0_waiting_121, f0_holder_122, f0_wrong_123, am381_126, am382_129, am383_132, am384_135, am385_138, am386_141, am387_144, am388_147, am389_150, am3810_153, am3811_156, am3812_159, am3813_162, am3814_165, am3815_168, am3816_171, am3817_174⟩ := u
    refine sz_giveUp H ?_ hR h
    intro u m5 hR h
    obtain ⟨f0_first_176, f0_waiting_177, f0_holder_178, f0_wrong_179, am421_182, am422_185, am423_188, am424_191, am425_194, am426_197, am427_200, am428_203, am429_206, am4210_209, am4211_212, am4212_215, am4213_218, am4214_221, am4215_224, am4216_227, am4217_230⟩ := u
    refine zq_le_t h (zq_xad h_x1 (rfl : (1 : Int32) = nI 1)) (fun x1_231 c6 hc6 h => ?_)
    exact hJ6 _ _ _ _ _ _ _ _ _ _ _ _ _ _ _ _ _ _ _ _ _ _ _ _ hc6 hR h
noncomputable def ez_settle_6_b (k : Nat → Bool) (ih : Nat → Nat → Bool) (c_x1 : Nat) (m : Nat) : Bool := zq_bc (zq_le 3 c_x1) (k m) (ez_leaderNow (fun c1 => zq_bc (zq_le 0 c1) (ez_settle_22 k ih c_x1 m) (ez_hold (fun m2 => ez_settle_22 k ih c_x1 m2) m)) m)
noncomputable def ez_settle_6 (k : Nat → Bool) (n : Nat) : Nat → Nat → Bool := Nat.rec (motive := fun _ => Nat → Nat → Bool) (fun _ _ => false) (fun _ ih => ez_settle_6_b k ih) n
theorem sz_settle_6 {pl sg : Nat → Nat → Int32} (H : zq_H pl sg) {post : St2 → Prop} {k : Nat → Bool} (hk : ∀ (u : St2) (m : Nat), zq_R pl sg m u → k m = true → post u) : ∀ (n : Nat) (x1 : Int32) (c_x1 : Nat) (m : Nat) (f0_first : Int32) (f0_waiting : Int32) (f0_holder : Int32) (f0_wrong : Int32) (am11 : Nat → Int32) (am12 : Nat → Int32) (am13 : Nat → Int32) (am14 : Nat → Int32) (am15 : Nat → Int32) (am16 : Nat → Int32) (am17 : Nat → Int32) (am18 : Nat → Int32) (am19 : Nat → Int32) (am110 : Nat → Int32) (am111 : Nat → Int32) (am112 : Nat → Int32) (am113 : Nat → Int32) (am114 : Nat → Int32) (am115 : Nat → Int32) (am116 : Nat → Int32) (am117 : Nat → Int32), x1 = nI c_x1 → zq_R pl sg m (f0_first, f0_waiting, f0_holder, f0_wrong, am11, am12, am13, am14, am15, am16, am17, am18, am19, am110, am111, am112, am113, am114, am115, am116, am117) → ez_settle_6 k n c_x1 m = true → wX_settle_6 post n x1 f0_first f0_waiting f0_holder f0_wrong am11 am12 am13 am14 am15 am16 am17 am18 am19 am110 am111 am112 am113 am114 am115 am116 am117 := by
  intro n
  induction n with
  | zero =>
    intro x1 c_x1 m f0_first f0_waiting f0_holder f0_wrong am11 am12 am13 am14 am15 am16 am17 am18 am19 am110 am111 am112 am113 am114 am115 am116 am117 h_x1 hR h
    exact zq_ff h
  | succ n ih =>
    intro x1 c_x1 m f0_first f0_waiting f0_holder f0_wrong am11 am12 am13 am14 am15 am16 am17 am18 am19 am110 am111 am112 am113 am114 am115 am116 am117 h_x1 hR h
    have h : ez_settle_6_b k (ez_settle_6 k n) c_x1 m = true := h
    unfold ez_settle_6_b at h
    unfold wX_settle_6
    refine zq_br (zq_cle (rfl : (3 : Int32) = nI 3) h_x1) h (fun h => ?_) (fun h => ?_)
    · exact hk _ _ hR h
    · refine sz_leaderNow H ?_ hR h
      intro r_58 c1 hc1 h
      refine zq_br (zq_cle (rfl : (0 : Int32) = nI 0) hc1) h (fun h => ?_) (fun h => ?_)
      · exact sz_settle_22 H hk ih h_x1 hR h
      · refine sz_hold H ?_ hR h
        intro u m2 hR h
        obtain ⟨f0_first_233, f0_waiting_234, f0_holder_235, f0_wrong_236, am191_239, am192_242, am193_245, am194_248, am195_251, am196_254, am197_257, am198_260, am199_263, am1910_266, am1911_269, am1912_272, am1913_275, am1914_278, am1915_281, am1916_284, am1917_287⟩ := u
        exact sz_settle_22 H hk ih h_x1 hR h
noncomputable def ez_settle (k : Nat → Bool) (m : Nat) : Bool := ez_giveUp (fun m1 => ez_settle_6 k 300 0 m1) m
theorem sz_settle {pl sg : Nat → Nat → Int32} (H : zq_H pl sg) {post : St2 → Prop} {k : Nat → Bool} (hk : ∀ (u : St2) (m : Nat), zq_R pl sg m u → k m = true → post u) {u : St2} {m : Nat} (hR : zq_R pl sg m u) (h : ez_settle k m = true) : wpX_settle post u := by
  obtain ⟨f0_first, f0_waiting, f0_holder, f0_wrong, a1, a2, a3, a4, a5, a6, a7, a8, a9, a10, a11, a12, a13, a14, a15, a16, a17⟩ := u
  unfold wpX_settle
  unfold ez_settle at h
  refine sz_giveUp H ?_ hR h
  intro u m1 hR h
  obtain ⟨f0_first_2, f0_waiting_3, f0_holder_4, f0_wrong_5, am11_8, am12_11, am13_14, am14_17, am15_20, am16_23, am17_26, am18_29, am19_32, am110_35, am111_38, am112_41, am113_44, am114_47, am115_50, am116_53, am117_56⟩ := u
  exact ⟨300, sz_settle_6 H hk 300 _ _ _ _ _ _ _ _ _ _ _ _ _ _ _ _ _ _ _ _ _ _ _ _ (rfl : (0 : Int32) = nI 0) hR h⟩
end
section
noncomputable def ez_areSame (k : Nat → Bool) (c_p0 c_p1 m : Nat) : Bool :=
  zq_bc (zq_bl c_p0 5) (zq_bc (zq_bl c_p1 5) (zq_bc (Nat.beq (Nat.div (zq_rd m (Nat.add 54 c_p0)) 64) (Nat.div (zq_rd m (Nat.add 54 c_p1)) 64)) (k 1) false) false) false
theorem sz_areSame {pl sg : Nat → Nat → Int32} (_H : zq_H pl sg) {post : Int32 → Prop} {k : Nat → Bool} (hk : ∀ (x : Int32) (c : Nat), x = nI c → k c = true → post x) {p0 : Int32} {c_p0 : Nat} (h_p0 : p0 = nI c_p0) {p1 : Int32} {c_p1 : Nat} (h_p1 : p1 = nI c_p1) {u : St2} {m : Nat} (hR : zq_R pl sg m u) (h : ez_areSame k c_p0 c_p1 m = true) : wpX_areSame post u p0 p1 := by
  obtain ⟨f1, f2, f3, f4, a1, a2, a3, a4, a5, a6, a7, a8, a9, a10, a11, a12, a13, a14, a15, a16, a17⟩ := u
  unfold wpX_areSame
  unfold ez_areSame at h
  obtain ⟨q0, h⟩ := zq_bc_s h
  obtain ⟨q1, h⟩ := zq_bc_s h
  obtain ⟨q2, h⟩ := zq_bc_s h
  have q0 := zq_bl_s q0
  have q1 := zq_bl_s q1
  have q2 : zq_rd m (54 + c_p0) / 64 = zq_rd m (54 + c_p1) / 64 := zq_beq_s q2
  refine pk_loop (σ := Unit) (fun n i _ => wX_areSame_2 post p0 p1 f1 f2 f3 f4 a1 a2 a3 a4 a5 a6 a7 a8 a9 a10 a11 a12 a13 a14 a15 a16 a17 n (nI i)) (fun _ _ => True) 14 0 () (by decide) trivial ?_ ?_
  · intro n _ _
    unfold wX_areSame_2
    exact pk_le 14 14 (fun _ => hk _ _ (rfl : (1 : Int32) = nI 1) h) (fun z => absurd z (by decide))
  · intro n i _ hi _ hw
    unfold wX_areSame_2
    refine pk_le 14 i (fun z => absurd z (by omega)) (fun _ => ?_)
    have x1 : (15 : Int32) * p0 + nI i = nI (15 * c_p0 + i) := by
      rw [h_p0]
      show nI 15 * nI c_p0 + nI i = _
      rw [pk_mul, nI_add]
    have x2 : (15 : Int32) * p1 + nI i = nI (15 * c_p1 + i) := by
      rw [h_p1]
      show nI 15 * nI c_p1 + nI i = _
      rw [pk_mul, nI_add]
    rw [x1, x2, nI_clamp (show 15 * c_p0 + i < 2 ^ 31 by omega), nI_clamp (show 15 * c_p1 + i < 2 ^ 31 by omega)]
    have e : a12 (15 * c_p0 + i) = a12 (15 * c_p1 + i) := by
      rw [zq_p12 hR c_p0 i q0 (by omega), zq_p12 hR c_p1 i q1 (by omega)]
      unfold zq_ac
      rw [if_neg (by omega), if_neg (by omega), q2]
    exact ⟨vp_in_nI (by omega) (by decide), vp_in_nI (by omega) (by decide), br_t e (nm_r (nI_1 i) (hw () trivial))⟩
noncomputable def ez_isSameEntry (k : Nat → Bool) (c_p0 c_p1 c_p2 m : Nat) : Bool :=
  ez_cellOf (fun r1 => ez_cellOf (fun r2 => zq_bc (zq_bl r1 554) (zq_bc (zq_bl r2 554) (zq_bc (Nat.beq (Nat.mod r1 7) 0) (zq_bc (Nat.beq (Nat.mod r2 7) 0) (zq_bc (Nat.beq (zq_rd m (Nat.add 123 (Nat.div r1 7))) (zq_rd m (Nat.add 123 (Nat.div r2 7)))) (k 1) false) false) false) false) false) c_p1 c_p2 m) c_p0 c_p2 m
theorem sz_isSameEntry {pl sg : Nat → Nat → Int32} (H : zq_H pl sg) {post : Int32 → Prop} {k : Nat → Bool} (hk : ∀ (x : Int32) (c : Nat), x = nI c → k c = true → post x) {p0 : Int32} {c_p0 : Nat} (h_p0 : p0 = nI c_p0) {p1 : Int32} {c_p1 : Nat} (h_p1 : p1 = nI c_p1) {p2 : Int32} {c_p2 : Nat} (h_p2 : p2 = nI c_p2) {u : St2} {m : Nat} (hR : zq_R pl sg m u) (h : ez_isSameEntry k c_p0 c_p1 c_p2 m = true) : wpX_isSameEntry post u p0 p1 p2 := by
  obtain ⟨f1, f2, f3, f4, a1, a2, a3, a4, a5, a6, a7, a8, a9, a10, a11, a12, a13, a14, a15, a16, a17⟩ := u
  unfold wpX_isSameEntry
  unfold ez_isSameEntry at h
  refine sz_cellOf H ?_ h_p0 h_p2 hR h
  intro r1 c1 hr1 h
  refine sz_cellOf H ?_ h_p1 h_p2 hR h
  intro r2 c2 hr2 h
  obtain ⟨q0, h⟩ := zq_bc_s h
  obtain ⟨q1, h⟩ := zq_bc_s h
  obtain ⟨q2, h⟩ := zq_bc_s h
  obtain ⟨q3, h⟩ := zq_bc_s h
  obtain ⟨q4, h⟩ := zq_bc_s h
  have q0 := zq_bl_s q0
  have q1 := zq_bl_s q1
  have q2 : c1 % 7 = 0 := zq_beq_s q2
  have q3 : c2 % 7 = 0 := zq_beq_s q3
  have q4 : zq_rd m (123 + c1 / 7) = zq_rd m (123 + c2 / 7) := zq_beq_s q4
  refine pk_loop (σ := Unit) (fun n i _ => wX_isSameEntry_19 post r1 r2 f1 f2 f3 f4 a1 a2 a3 a4 a5 a6 a7 a8 a9 a10 a11 a12 a13 a14 a15 a16 a17 n (nI i)) (fun _ _ => True) 7 0 () (by decide) trivial ?_ ?_
  · intro n _ _
    unfold wX_isSameEntry_19
    exact pk_le 7 7 (fun _ => hk _ _ (rfl : (1 : Int32) = nI 1) h) (fun z => absurd z (by decide))
  · intro n i _ hi _ hw
    unfold wX_isSameEntry_19
    refine pk_le 7 i (fun z => absurd z (by omega)) (fun _ => ?_)
    have x1 : r1 + nI i = nI (c1 + i) := by rw [hr1, nI_add]
    have x2 : r2 + nI i = nI (c2 + i) := by rw [hr2, nI_add]
    rw [x1, x2, nI_clamp (show c1 + i < 2 ^ 31 by omega), nI_clamp (show c2 + i < 2 ^ 31 by omega)]
    have e : a10 (c1 + i) = a10 (c2 + i) := by
      have g1 := zq_p10 hR (c1 / 7) i (by omega) hi
      have g2 := zq_p10 hR (c2 / 7) i (by omega) hi
      have d1 : 7 * (c1 / 7) + i = c1 + i := by omega
      have d2 : 7 * (c2 / 7) + i = c2 + i := by omega
      rw [d1] at g1
      rw [d2] at g2
      rw [g1, g2, q4]
    exact ⟨vp_in_nI (by omega) (by decide), vp_in_nI (by omega) (by decide), br_t e (nm_r (nI_1 i) (hw () trivial))⟩
noncomputable def ez_fold_108 (k : Nat → Bool) (c_x1 m : Nat) : Bool := zq_bc (zq_bl c_x1 5) (zq_fo (zq_wr m (Nat.add 59 c_x1) (zq_rd m (Nat.add 54 c_x1))) k) false
theorem sz_fold_108 {pl sg : Nat → Nat → Int32} (_H : zq_H pl sg) {post : St2 → Prop} {k : Nat → Bool} (hk : ∀ (u : St2) (m : Nat), zq_R pl sg m u → k m = true → post u) {x1 : Int32} {c_x1 : Nat} (h_x1 : x1 = nI c_x1) {m : Nat} {f1 f2 f3 f4 : Int32} {a1 a2 a3 a4 a5 a6 a7 a8 a9 a10 a11 a12 a13 a14 a15 a16 a17 : Nat → Int32} (hR : zq_R pl sg m (f1, f2, f3, f4, a1, a2, a3, a4, a5, a6, a7, a8, a9, a10, a11, a12, a13, a14, a15, a16, a17)) (h : ez_fold_108 k c_x1 m = true) : ∃ n, wX_fold_108 post x1 f1 f2 f3 f4 n 0 a1 a2 a3 a4 a5 a6 a7 a8 a9 a10 a11 a12 a13 a14 a15 a16 a17 := by
  unfold ez_fold_108 at h
  obtain ⟨q1, h⟩ := zq_bc_s h
  obtain ⟨m2, hm, h⟩ := zq_fo_e h
  have q1 := zq_bl_s q1
  have hm : m2 = zq_wr m (59 + c_x1) (zq_rd m (54 + c_x1)) := hm
  refine pk_loop (fun n i s => wX_fold_108 post x1 f1 f2 f3 f4 n (nI i) a1 a2 a3 a4 a5 a6 a7 a8 a9 a10 a11 a12 s a14 a15 a16 a17) (fun i s => zq_cop a12 (15 * c_x1) a13 (15 * c_x1) i s) 15 0 a13 (by decide) zq_cop0 ?_ ?_
  · intro n s hI
    unfold wX_fold_108
    refine pk_le 15 15 (fun _ => ?_) (fun z => absurd z (by decide))
    refine hk _ _ (zq_x13 hR hm (by omega) (by omega) ?_) h
    intro e j he hj
    have hlt := zq_rd_lt m (54 + c_x1)
    by_cases es : e = c_x1
    · have e9 : zq_rd m2 (59 + e) = zq_rd m (54 + c_x1) := by
        rw [es, zq_rw_e hm]
        omega
      rw [e9, es, zq_copA hI hj]
      exact zq_p12 hR c_x1 j q1 hj
    · rw [zq_rw_n hm (j := 59 + e) (by omega), zq_copB hI (by omega)]
      exact zq_p13 hR e j he hj
  · intro n i s hi hI hw
    unfold wX_fold_108
    refine pk_le 15 i (fun z => absurd z (by omega)) (fun _ => ?_)
    have y1 : (15 : Int32) * x1 + nI i = nI (15 * c_x1 + i) := by
      rw [h_x1]
      show nI 15 * nI c_x1 + nI i = _
      rw [pk_mul, nI_add]
    rw [y1, nI_clamp (show 15 * c_x1 + i < 2 ^ 31 by omega)]
    exact ⟨vp_in_nI (by omega) (by decide), vp_in_nI (by omega) (by decide), nm_e (nm_r (nI_1 i) (hw _ (zq_cop1 hI rfl rfl)))⟩
noncomputable def ez_fold_41x (k : Nat → Bool) (c_x1 c_x2 m : Nat) : Bool := zq_bc (zq_bl c_x1 5) (zq_bc (zq_bl c_x1 5) (zq_fo (zq_wr m (Nat.add 44 c_x1) (zq_sb (zq_rd m (Nat.add 44 c_x1)) c_x2)) (fun m2 => zq_bc (zq_bl c_x1 5) (zq_bc (zq_bl c_x1 5) (zq_fo (zq_wr m2 (Nat.add 34 c_x1) (zq_rd m2 (Nat.add 49 c_x1))) (fun m4 => ez_fold_108 k c_x1 m4)) false) false)) false) false
theorem sz_fold_41x {pl sg : Nat → Nat → Int32} (H : zq_H pl sg) {post : St2 → Prop} {k : Nat → Bool} (hk : ∀ (u : St2) (m : Nat), zq_R pl sg m u → k m = true → post u) {f0_first : Int32} {f0_waiting : Int32} {f0_holder : Int32} {f0_wrong : Int32} {a1 : Nat → Int32} {a2 : Nat → Int32} {a3 : Nat → Int32} {a4 : Nat → Int32} {a5 : Nat → Int32} {a6 : Nat → Int32} {a7 : Nat → Int32} {a8 : Nat → Int32} {a9 : Nat → Int32} {a10 : Nat → Int32} {a11 : Nat → Int32} {a12 : Nat → Int32} {a13 : Nat → Int32} {a14 : Nat → Int32} {a15 : Nat → Int32} {a16 : Nat → Int32} {a17 : Nat → Int32} {x1 : Int32} {c_x1 : Nat} (h_x1 : x1 = nI c_x1) {x2 : Int32} {c_x2 : Nat} (h_x2 : x2 = nI c_x2) {m : Nat} (hR : zq_R pl sg m (f0_first, f0_waiting, f0_holder, f0_wrong, a1, a2, a3, a4, a5, a6, a7, a8, a9, a10, a11, a12, a13, a14, a15, a16, a17)) (h : ez_fold_41x k c_x1 c_x2 m = true) : vp_in x1 5 ∧ (vp_in x1 5 ∧ ∀ a9_14 : Nat → Int32, a9_14 = (upd a9 x1.toNatClampNeg ((a9 x1.toNatClampNeg) - x2)) → (vp_in x1 5 ∧ (vp_in x1 5 ∧ ∀ a7_17 : Nat → Int32, a7_17 = (upd a7 x1.toNatClampNeg (a11 x1.toNatClampNeg)) → (∃ fu108 : Nat, wX_fold_108 post x1 f0_first f0_waiting f0_holder f0_wrong fu108 0 a1 a2 a3 a4 a5 a6 a7_17 a8 a9_14 a10 a11 a12 a13 a14 a15 a16 a17)))) := by
  unfold ez_fold_41x at h
  refine zq_vi h_x1 h (fun q1 h => ?_)
  refine zq_st9 hR h_x1 (zq_xsb (zq_g9 hR h_x1 q1) h_x2) h (fun a9_14 m2 hR h => ?_)
  refine zq_vi h_x1 h (fun q3 h => ?_)
  refine zq_st7 hR h_x1 (zq_g11 hR h_x1 q3) h (fun a7_17 m4 hR h => ?_)
  exact sz_fold_108 H hk h_x1 hR h
noncomputable def ez_fold_41 (k : Nat → Bool) (c_x1 c_x2 c_x3 m : Nat) : Bool :=
  zq_bc (zq_bl c_x1 5) (zq_bc (Nat.beq c_x3 (Nat.mul 112 c_x1)) (zq_bc (zq_bl 0 c_x2) (zq_fo (zq_rd m (Nat.add 44 c_x1)) (fun en => zq_bc (Nat.ble en 16)
    (zq_bc (Nat.beq en c_x2) (ez_fold_41x k c_x1 c_x2 m)
      (zq_bc (Nat.beq en (Nat.add c_x2 1)) (zq_fo (zq_wr m (Nat.add 123 (Nat.mul 16 c_x1)) (zq_rd m (Nat.add 123 (Nat.add (Nat.mul 16 c_x1) c_x2)))) (fun m2 => ez_fold_41x k c_x1 c_x2 m2)) false)) false)) false) false) false
theorem zq_fold_41 {pl sg : Nat → Nat → Int32} (H : zq_H pl sg) {post : St2 → Prop} {k : Nat → Bool} (hk : ∀ (u : St2) (m : Nat), zq_R pl sg m u → k m = true → post u) {x1 : Int32} {c_x1 : Nat} (h_x1 : x1 = nI c_x1) {x2 : Int32} {c_x2 : Nat} (h_x2 : x2 = nI c_x2) (t : Nat) {m2 : Nat} {f1 f2 f3 f4 : Int32} {a1 a2 a3 a4 a5 a6 a7 a8 a9 a10 a11 a12 a13 a14 a15 a16 a17 : Nat → Int32} (q1 : c_x1 < 5) (q3 : 0 < c_x2) (q4 : c_x2 + t ≤ 16) (ht : t ≤ 1) (he : a9 x1.toNatClampNeg = nI (c_x2 + t))
    (hR : ∀ s, zq_cop a10 (112 * c_x1 + 7 * c_x2) a10 (112 * c_x1) (7 * t) s → zq_R pl sg m2 (f1, f2, f3, f4, a1, a2, a3, a4, a5, a6, a7, a8, a9, s, a11, a12, a13, a14, a15, a16, a17)) (h : ez_fold_41x k c_x1 c_x2 m2 = true) : ∃ n, wX_fold_41 post x1 x2 f1 f2 f3 f4 n (nI (112 * c_x1 + 0)) a1 a2 a3 a4 a5 a6 a7 a8 a9 a10 a11 a12 a13 a14 a15 a16 a17 := by
  have V : vp_in x1 5 := by
    rw [h_x1]
    exact vp_in_nI q1 (by decide)
  have E : (7 : Int32) * (((16 : Int32) * x1 + a9 x1.toNatClampNeg) - x2) = nI (112 * c_x1 + 7 * t) := by
    rw [he, h_x1, h_x2]
    show nI 7 * ((nI 16 * nI c_x1 + nI (c_x2 + t)) - nI c_x2) = _
    rw [pk_mul, nI_add, pk_sub (by omega), pk_mul]
    apply congrArg nI
    omega
  refine pk_loop (fun n i s => wX_fold_41 post x1 x2 f1 f2 f3 f4 n (nI (112 * c_x1 + i)) a1 a2 a3 a4 a5 a6 a7 a8 a9 s a11 a12 a13 a14 a15 a16 a17) (fun i s => zq_cop a10 (112 * c_x1 + 7 * c_x2) a10 (112 * c_x1) i s) (7 * t) 0 a10 (by omega) zq_cop0 ?_ ?_
  · intro n s hI
    unfold wX_fold_41
    refine ⟨V, ?_⟩
    rw [E]
    refine br_t (nI_le (by omega) (by omega)) ?_
    exact sz_fold_41x H hk h_x1 h_x2 (hR s hI) h
  · intro n i s hi hI hw
    unfold wX_fold_41
    refine ⟨V, ?_⟩
    rw [E]
    refine br_f (nI_ge (by omega) (by omega)) ?_
    have y1 : nI (112 * c_x1 + i) + 7 * x2 = nI (112 * c_x1 + i + 7 * c_x2) := by
      rw [h_x2]
      show nI (112 * c_x1 + i) + nI 7 * nI c_x2 = _
      rw [pk_mul, nI_add]
    rw [y1, nI_clamp (show 112 * c_x1 + i < 2 ^ 31 by omega), nI_clamp (show 112 * c_x1 + i + 7 * c_x2 < 2 ^ 31 by omega)]
    have e1 : s (112 * c_x1 + i + 7 * c_x2) = a10 (112 * c_x1 + 7 * c_x2 + i) := by
      rw [zq_copB hI (by omega)]
      apply congrArg a10
      omega
    exact ⟨vp_in_nI (by omega) (by decide), vp_in_nI (by omega) (by decide), nm_e (nm_r (nI_1 (112 * c_x1 + i)) (hw _ (zq_cop1 hI rfl e1)))⟩
theorem sz_fold_41 {pl sg : Nat → Nat → Int32} (H : zq_H pl sg) {post : St2 → Prop} {k : Nat → Bool} (hk : ∀ (u : St2) (m : Nat), zq_R pl sg m u → k m = true → post u) {x1 : Int32} {c_x1 : Nat} (h_x1 : x1 = nI c_x1) {x2 : Int32} {c_x2 : Nat} (h_x2 : x2 = nI c_x2) {x3 : Int32} {c_x3 : Nat} (h_x3 : x3 = nI c_x3) {m : Nat} {f1 f2 f3 f4 : Int32} {a1 a2 a3 a4 a5 a6 a7 a8 a9 a10 a11 a12 a13 a14 a15 a16 a17 : Nat → Int32} (hR : zq_R pl sg m (f1, f2, f3, f4, a1, a2, a3, a4, a5, a6, a7, a8, a9, a10, a11, a12, a13, a14, a15, a16, a17)) (h : ez_fold_41 k c_x1 c_x2 c_x3 m = true) : ∃ n, wX_fold_41 post x1 x2 f1 f2 f3 f4 n x3 a1 a2 a3 a4 a5 a6 a7 a8 a9 a10 a11 a12 a13 a14 a15 a16 a17 := by
  unfold ez_fold_41 at h
  obtain ⟨w1, h⟩ := zq_bc_s h
  obtain ⟨q2, h⟩ := zq_bc_s h
  obtain ⟨q3, h⟩ := zq_bc_s h
  obtain ⟨en, een, h⟩ := zq_fo_e h
  obtain ⟨q4, h⟩ := zq_bc_s h
  have q1 := zq_bl_s w1
  have q2 : c_x3 = 112 * c_x1 := zq_beq_s q2
  have q3 := zq_bl_s q3
  have q4 := zq_ble_s q4
  have e9 : a9 x1.toNatClampNeg = nI en := zq_tr (zq_g9 hR h_x1 w1) een
  rw [h_x3, q2]
  rcases zq_bc_b h with ⟨q5, h2⟩ | ⟨_, h2⟩
  · have q5 := zq_beq_s q5
    refine zq_fold_41 H hk h_x1 h_x2 0 q1 q3 (by omega) (by omega) (by rw [e9, q5]; rfl) (fun s hI => ?_) h2
    have es : s = a10 := by
      funext j
      exact zq_copB hI (by omega)
    rw [es]
    exact hR
  · obtain ⟨q5, h3⟩ := zq_bc_s h2
    obtain ⟨m2, hm, h4⟩ := zq_fo_e h3
    have q5 : en = c_x2 + 1 := zq_beq_s q5
    have hm : m2 = zq_wr m (123 + 16 * c_x1) (zq_rd m (123 + (16 * c_x1 + c_x2))) := hm
    refine zq_fold_41 H hk h_x1 h_x2 1 q1 q3 (by omega) (by omega) (by rw [e9, q5]) (fun s hI => ?_) h4
    refine zq_x10 hR hm (by omega) (by omega) ?_
    intro e j he hj
    have hlt := zq_rd_lt m (123 + (16 * c_x1 + c_x2))
    by_cases es : e = 16 * c_x1
    · have g9 : zq_rd m2 (123 + e) = zq_rd m (123 + (16 * c_x1 + c_x2)) := by
        rw [es, zq_rw_e hm]
        omega
      have d1 : 7 * e + j = 112 * c_x1 + j := by omega
      rw [g9, d1, zq_copA hI (by omega)]
      have g := zq_p10 hR (16 * c_x1 + c_x2) j (by omega) hj
      have d2 : 7 * (16 * c_x1 + c_x2) + j = 112 * c_x1 + 7 * c_x2 + j := by omega
      rw [d2] at g
      exact g
    · rw [zq_rw_n hm (j := 123 + e) (by omega), zq_copB hI (by omega)]
      exact zq_p10 hR e j he hj
theorem zq_R0 {pl sg : Nat → Nat → Int32} (H : zq_H pl sg) {m : Nat} (hm : m = zq_wr 0 2 4294967295) : zq_R pl sg m (0, 0, (-1), 0, (fun _ => 0), (fun _ => 0), (fun _ => 0), (fun _ => 0), (fun _ => 0), (fun _ => 0), (fun _ => 0), (fun _ => 0), (fun _ => 0), (fun _ => 0), (fun _ => 0), (fun _ => 0), (fun _ => 0), (fun _ => 0), (fun _ => 0), (fun _ => 0), (fun _ => 0)) := by
  have h0 : ∀ j, j ≠ 2 → zq_rd m j = 0 := by
    intro j hj
    rw [zq_rw_n hm hj]
    show (0 >>> (32 * j)) % 4294967296 = 0
    rw [Nat.zero_shiftRight]
  have h2 : zq_rd m 2 = 4294967295 := zq_rw_e hm
  have hS : ∀ o n, 2 < o → zq_S m o n (fun _ => 0) := by
    intro o n ho i hi
    rw [h0 (Nat.add o i) (by show o + i ≠ 2; omega)]
    rfl
  have p0 := H.2.2.2.2.2.2.2
  have s0 := H.2.2.1
  have hA : ∀ o, 2 < o → zq_A sg m o (fun _ => 0) := by
    intro o ho n j hn hj
    rw [h0 (o + n) (by omega)]
    unfold zq_ac
    by_cases e : j = 14
    · rw [if_pos e]
      rfl
    · rw [if_neg e]
      exact (s0 j).symm
  have hec : ∀ j, zq_ec pl 0 j = 0 := by
    intro j
    unfold zq_ec
    by_cases e : j = 0
    · rw [if_pos e]
      rfl
    · rw [if_neg e]
      exact p0 j
  have hqc : ∀ o c, 2 < o → zq_qc pl m o c = 0 := by
    intro o c ho
    unfold zq_qc
    by_cases e : c < 8
    · rw [if_pos e, h0 (o + c) (by omega)]
      rfl
    · rw [if_neg e, h0 (o + 8) (by omega)]
      exact hec _
  refine ⟨?_, ?_, ?_, ?_, hS _ _ (by decide), hS _ _ (by decide), hS _ _ (by decide), hS _ _ (by decide), hS _ _ (by decide), hS _ _ (by decide), hS _ _ (by decide), hS _ _ (by decide), hS _ _ (by decide), ?_, hS _ _ (by decide), hA _ (by decide), hA _ (by decide), hS _ _ (by decide), hS _ _ (by decide), ?_, ?_⟩
  · rw [h0 0 (by decide)]
    rfl
  · rw [h0 1 (by decide)]
    rfl
  · rw [h2]
    exact zq_m1
  · rw [h0 3 (by decide)]
    rfl
  · intro e j he hj
    rw [h0 (123 + e) (by omega)]
    exact (hec j).symm
  · intro s c hs hc
    exact (hqc _ _ (by omega)).symm
  · intro c hc
    exact (hqc _ _ (by omega)).symm
noncomputable def ez_fold (k : Nat → Bool) (c_p0 : Nat) (m : Nat) : Bool := zq_bc (zq_bl c_p0 5) (zq_bc (zq_bl c_p0 5) (zq_fo (zq_sb (zq_rd m (Nat.add 49 c_p0)) (zq_rd m (Nat.add 34 c_p0))) (fun c3 => zq_bc (zq_eq c3 0) (k m) (zq_bc (zq_bl c_p0 5) (zq_fo (zq_rd m (Nat.add 49 c_p0)) (fun c5 => ez_termAt (fun c7 => zq_bc (zq_bl c_p0 5) (zq_fo (zq_wr m (Nat.add 39 c_p0) c7) (fun m8 => zq_fo (zq_ml 112 c_p0) (fun c9 => ez_fold_41 k c_p0 c3 c9 m8))) false) c_p0 c5 m)) false))) false) false
theorem sz_fold {pl sg : Nat → Nat → Int32} (H : zq_H pl sg) {post : St2 → Prop} {k : Nat → Bool} (hk : ∀ (u : St2) (m : Nat), zq_R pl sg m u → k m = true → post u) {p0 : Int32} {c_p0 : Nat} (h_p0 : p0 = nI c_p0) {u : St2} {m : Nat} (hR : zq_R pl sg m u) (h : ez_fold k c_p0 m = true) : wpX_fold post u p0 := by
  obtain ⟨f0_first, f0_waiting, f0_holder, f0_wrong, a1, a2, a3, a4, a5, a6, a7, a8, a9, a10, a11, a12, a13, a14, a15, a16, a17⟩ := u
  unfold wpX_fold
  unfold ez_fold at h
  refine zq_vi h_p0 h (fun q1 h => ?_)
  refine zq_vi h_p0 h (fun q2 h => ?_)
  refine zq_le_t h (zq_xsb (zq_g11 hR h_p0 q2) (zq_g7 hR h_p0 q2)) (fun x2_3 c3 hc3 h => ?_)
  refine zq_br (zq_ceq hc3 (rfl : (0 : Int32) = nI 0)) h (fun h => ?_) (fun h => ?_)
  · exact hk _ _ hR h
  · refine zq_vi h_p0 h (fun q4 h => ?_)
    obtain ⟨c5, ec5, h⟩ := zq_fo_e h
    have hf6 := zq_tr (zq_g11 hR h_p0 q4) ec5
    refine sz_termAt H ?_ h_p0 hf6 hR h
    intro r_6 c7 hc7 h
    refine zq_st8 hR h_p0 hc7 h (fun a8_8 m8 hR h => ?_)
    refine zq_le_t h (zq_xml (rfl : (112 : Int32) = nI 112) h_p0) (fun x3_9 c9 hc9 h => ?_)
    exact sz_fold_41 H hk h_p0 hc3 hc9 hR h
noncomputable def ez_init_139_b (k : Nat → Bool) (ih : Nat → Nat → Bool) (c_x1 : Nat) (m : Nat) : Bool := zq_bc (zq_le 5 c_x1) (ez_settle (fun m1 => k m1) m) (zq_bc (zq_bl c_x1 5) (zq_fo (zq_wr m (Nat.add 4 c_x1) 1) (fun m2 => zq_bc (zq_bl c_x1 5) (zq_fo (zq_wr m2 (Nat.add 24 c_x1) 4294967295) (fun m3 => zq_fo (zq_ad (zq_ml 15 c_x1) 14) (fun c4 => zq_bc (Nat.beq (Nat.mod c4 15) 14) (zq_bc (zq_bl 31 64) (zq_bc (zq_bl c4 75) (zq_fo (zq_wr m3 (Nat.add 54 (Nat.div c4 15)) (Nat.add (Nat.mul (Nat.div (zq_rd m3 (Nat.add 54 (Nat.div c4 15))) 64) 64) 31)) (fun m8 => zq_bc (zq_bl c4 75) (zq_fo (zq_wr m8 (Nat.add 59 (Nat.div c4 15)) (Nat.add (Nat.mul (Nat.div (zq_rd m8 (Nat.add 59 (Nat.div c4 15))) 64) 64) 31)) (fun m10 => zq_fo (zq_ad c_x1 1) (fun c11 => ih c11 m10))) false)) false) false) false))) false)) false)
noncomputable def ez_init_139 (k : Nat → Bool) (n : Nat) : Nat → Nat → Bool := Nat.rec (motive := fun _ => Nat → Nat → Bool) (fun _ _ => false) (fun _ ih => ez_init_139_b k ih) n
theorem sz_init_139 {pl sg : Nat → Nat → Int32} (H : zq_H pl sg) {post : St2 → Prop} {k : Nat → Bool} (hk : ∀ (u : St2) (m : Nat), zq_R pl sg m u → k m = true → post u) {f0_first : Int32} {f0_waiting : Int32} {f0_holder : Int32} {f0_wrong : Int32} {mc : Nat} {ms : Nat} {kc : Nat} {ks : Nat} : ∀ (n : Nat) (x1 : Int32) (c_x1 : Nat) (m : Nat) (am6 : Nat → Int32) (am13 : Nat → Int32) (am20 : Nat → Int32) (am27 : Nat → Int32) (am34 : Nat → Int32) (am41 : Nat → Int32) (am48 : Nat → Int32) (am55 : Nat → Int32) (am62 : Nat → Int32) (am71 : Nat → Int32) (am78 : Nat → Int32) (am86 : Nat → Int32) (am94 : Nat → Int32) (am102 : Nat → Int32) (am110 : Nat → Int32) (am119 : Nat → Int32) (am127 : Nat → Int32), x1 = nI c_x1 → zq_R pl sg m (f0_first, f0_waiting, f0_holder, f0_wrong, am6, am13, am20, am27, am34, am41, am48, am55, am62, am71, am78, am86, am94, am102, am110, am119, am127) → ez_init_139 k n c_x1 m = true → wX_init_139 post mc ms kc ks f0_first f0_waiting f0_holder f0_wrong n x1 am6 am13 am20 am27 am34 am41 am48 am55 am62 am71 am78 am86 am94 am102 am110 am119 am127 := by
  intro n
  induction n with
  | zero =>
    intro x1 c_x1 m am6 am13 am20 am27 am34 am41 am48 am55 am62 am71 am78 am86 am94 am102 am110 am119 am127 h_x1 hR h
    exact zq_ff h
  | succ n ih =>
    intro x1 c_x1 m am6 am13 am20 am27 am34 am41 am48 am55 am62 am71 am78 am86 am94 am102 am110 am119 am127 h_x1 hR h
    have h : ez_init_139_b k (ez_init_139 k n) c_x1 m = true := h
    unfold ez_init_139_b at h
    unfold wX_init_139
    refine zq_br (zq_cle (rfl : (5 : Int32) = nI 5) h_x1) h (fun h => ?_) (fun h => ?_)
    · refine sz_settle H ?_ hR h
      intro u m1 hR h
      obtain ⟨f0_first_71, f0_waiting_72, f0_holder_73, f0_wrong_74, am1931_77, am1932_80, am1933_83, am1934_86, am1935_89, am1936_92, am1937_95, am1938_98, am1939_101, am19310_104, am19311_107, am19312_110, am19313_113, am19314_116, am19315_119, am19316_122, am19317_125⟩ := u
      exact hk _ _ hR h
    · refine zq_st1 hR h_x1 (rfl : (1 : Int32) = nI 1) h (fun am6_127 m2 hR h => ?_)
      refine zq_st5 hR h_x1 zq_m1 h (fun am34_129 m3 hR h => ?_)
      obtain ⟨c4, ec4, h⟩ := zq_fo_e h
      have hf5 := zq_tr (zq_xad (zq_xml (rfl : (15 : Int32) = nI 15) h_x1) (rfl : (14 : Int32) = nI 14)) ec4
      obtain ⟨q6, h⟩ := zq_bc_s h
      obtain ⟨q7, h⟩ := zq_bc_s h
      refine zq_st12m hR hf5 (rfl : (31 : Int32) = nI 31) q6 q7 h (fun am86_131 m8 hR h => ?_)
      have hf9 := zq_tr (zq_xad (zq_xml (rfl : (15 : Int32) = nI 15) h_x1) (rfl : (14 : Int32) = nI 14)) ec4
      refine zq_st13m hR hf9 (rfl : (31 : Int32) = nI 31) q6 q7 h (fun am94_133 m10 hR h => ?_)
      refine zq_le_t h (zq_xad h_x1 (rfl : (1 : Int32) = nI 1)) (fun x1_134 c11 hc11 h => ?_)
      exact ih _ _ _ _ _ _ _ _ _ _ _ _ _ _ _ _ _ _ _ _ hc11 hR h
noncomputable def ez_init (k : Nat → Bool) : Bool := zq_fo (zq_wr 0 2 4294967295) (fun m => ez_init_139 k 300 0 m)
theorem sz_init {pl sg : Nat → Nat → Int32} (H : zq_H pl sg) {post : St2 → Prop} {k : Nat → Bool} (hk : ∀ (u : St2) (m : Nat), zq_R pl sg m u → k m = true → post u) {mc ms : Nat} (h1 : 17 ≤ mc) (h2 : 1850 ≤ ms) (h : ez_init k = true) : wpX_init post mc ms (0, 0, 0, 0) := by
  unfold ez_init at h
  obtain ⟨m, hm, h⟩ := zq_fo_e h
  have hR := zq_R0 H hm
  unfold wpX_init
  dsimp only
  refine ⟨by omega, by omega, by omega, by omega, by omega, by omega, by omega, by omega, by omega, by omega, by omega, by omega, by omega, by omega, by omega, by omega, by omega, by omega, by omega, by omega, by omega, by omega, by omega, by omega, by omega, by omega, by omega, by omega, by omega, by omega, by omega, by omega, by omega, by omega, 300, ?_⟩
  exact sz_init_139 H hk 300 _ _ _ _ _ _ _ _ _ _ _ _ _ _ _ _ _ _ _ _ (rfl : (0 : Int32) = nI 0) hR h
noncomputable def ez_isNode (k : Nat → Bool) (c_p0 : Nat) : Bool := zq_bc (zq_lt c_p0 0) (k 0) (zq_bc (zq_le 5 c_p0) (k 0) (k 1))
theorem sz_isNode {pl sg : Nat → Nat → Int32} (H : zq_H pl sg) {post : Int32 → Prop} {k : Nat → Bool} (hk : ∀ (x : Int32) (c : Nat), x = nI c → k c = true → post x) {p0 : Int32} {c_p0 : Nat} (h_p0 : p0 = nI c_p0) {u : St0} (h : ez_isNode k c_p0 = true) : wpX_isNode post u p0 := by
  unfold wpX_isNode
  unfold ez_isNode at h
  refine zq_br (zq_clt h_p0 (rfl : (0 : Int32) = nI 0)) h (fun h => ?_) (fun h => ?_)
  · exact hk _ _ (rfl : (0 : Int32) = nI 0) h
  · refine zq_br (zq_cle (rfl : (5 : Int32) = nI 5) h_p0) h (fun h => ?_) (fun h => ?_)
    · exact hk _ _ (rfl : (0 : Int32) = nI 0) h
    · exact hk _ _ (rfl : (1 : Int32) = nI 1) h
noncomputable def ez_isUp (k : Nat → Bool) (c_p0 : Nat) (m : Nat) : Bool := ez_isNode (fun c1 => zq_bc (zq_eq c1 0) (k 4294967295) (zq_bc (zq_bl c_p0 5) (zq_bc (zq_eq (zq_rd m (Nat.add 4 c_p0)) 0) (k 0) (k 1)) false)) c_p0
theorem sz_isUp {pl sg : Nat → Nat → Int32} (H : zq_H pl sg) {post : Int32 → Prop} {k : Nat → Bool} (hk : ∀ (x : Int32) (c : Nat), x = nI c → k c = true → post x) {p0 : Int32} {c_p0 : Nat} (h_p0 : p0 = nI c_p0) {u : St2} {m : Nat} (hR : zq_R pl sg m u) (h : ez_isUp k c_p0 m = true) : wpX_isUp post u p0 := by
  obtain ⟨f0_first, f0_waiting, f0_holder, f0_wrong, a1, a2, a3, a4, a5, a6, a7, a8, a9, a10, a11, a12, a13, a14, a15, a16, a17⟩ := u
  unfold wpX_isUp
  unfold ez_isUp at h
  refine sz_isNode H ?_ h_p0 h
  intro r_1 c1 hc1 h
  refine zq_br (zq_ceq hc1 (rfl : (0 : Int32) = nI 0)) h (fun h => ?_) (fun h => ?_)
  · exact hk _ _ zq_m1 h
  · refine zq_vi h_p0 h (fun q2 h => ?_)
    refine zq_br (zq_ceq (zq_g1 hR h_p0 q2) (rfl : (0 : Int32) = nI 0)) h (fun h => ?_) (fun h => ?_)
    · exact hk _ _ (rfl : (0 : Int32) = nI 0) h
    · exact hk _ _ (rfl : (1 : Int32) = nI 1) h
noncomputable def ez_isMember_13_b (k : Nat → Bool) (ih : Nat → Nat → Nat → Bool) (c_x1 : Nat) (c_x2 : Nat) (c_x3 : Nat) (m : Nat) : Bool := zq_bc (zq_le 5 c_x3) (zq_fo (zq_ad (zq_ml 15 c_x2) 14) (fun c1 => zq_bc (zq_bl c1 75) (zq_bc (Nat.beq (Nat.mod c1 15) 14) (zq_fo (zq_bit (Nat.mod (zq_rd m (Nat.add 54 (Nat.div c1 15))) 64) c_x1) (fun c6 => k c6)) false) false)) (zq_bc (zq_bl c_x3 5) (zq_bc (zq_bl c_x2 5) (zq_bc (zq_le (zq_rd m (Nat.add 49 c_x3)) (zq_rd m (Nat.add 49 c_x2))) (zq_fo (zq_ad c_x3 1) (fun c10 => ih c_x2 c10 m)) (zq_fo (zq_ad c_x3 1) (fun c11 => ih c_x3 c11 m))) false) false)
noncomputable def ez_isMember_13 (k : Nat → Bool) (c_x1 : Nat) (n : Nat) : Nat → Nat → Nat → Bool := Nat.rec (motive := fun _ => Nat → Nat → Nat → Bool) (fun _ _ _ => false) (fun _ ih => ez_isMember_13_b k ih c_x1) n
theorem sz_isMember_13 {pl sg : Nat → Nat → Int32} (H : zq_H pl sg) {post : Int32 → Prop} {k : Nat → Bool} (hk : ∀ (x : Int32) (c : Nat), x = nI c → k c = true → post x) {f0_first : Int32} {f0_waiting : Int32} {f0_holder : Int32} {f0_wrong : Int32} {a1 : Nat → Int32} {a2 : Nat → Int32} {a3 : Nat → Int32} {a4 : Nat → Int32} {a5 : Nat → Int32} {a6 : Nat → Int32} {a7 : Nat → Int32} {a8 : Nat → Int32} {a9 : Nat → Int32} {a10 : Nat → Int32} {a11 : Nat → Int32} {a12 : Nat → Int32} {a13 : Nat → Int32} {a14 : Nat → Int32} {a15 : Nat → Int32} {a16 : Nat → Int32} {a17 : Nat → Int32} {x1 : Int32} {c_x1 : Nat} (h_x1 : x1 = nI c_x1) : ∀ (n : Nat) (x2 : Int32) (c_x2 : Nat) (x3 : Int32) (c_x3 : Nat) (m : Nat), x2 = nI c_x2 → x3 = nI c_x3 → zq_R pl sg m (f0_first, f0_waiting, f0_holder, f0_wrong, a1, a2, a3, a4, a5, a6, a7, a8, a9, a10, a11, a12, a13, a14, a15, a16, a17) → ez_isMember_13 k c_x1 n c_x2 c_x3 m = true → wX_isMember_13 post x1 f0_first f0_waiting f0_holder f0_wrong a1 a2 a3 a4 a5 a6 a7 a8 a9 a10 a11 a12 a13 a14 a15 a16 a17 n x2 x3 := by
  intro n
  induction n with
  | zero =>
    intro x2 c_x2 x3 c_x3 m h_x2 h_x3 hR h
    exact zq_ff h
  | succ n ih =>
    intro x2 c_x2 x3 c_x3 m h_x2 h_x3 hR h
    have h : ez_isMember_13_b k (ez_isMember_13 k c_x1 n) c_x1 c_x2 c_x3 m = true := h
    unfold ez_isMember_13_b at h
    unfold wX_isMember_13
    refine zq_br (zq_cle (rfl : (5 : Int32) = nI 5) h_x3) h (fun h => ?_) (fun h => ?_)
    · obtain ⟨c1, ec1, h⟩ := zq_fo_e h
      have hf2 := zq_tr (zq_xad (zq_xml (rfl : (15 : Int32) = nI 15) h_x2) (rfl : (14 : Int32) = nI 14)) ec1
      refine zq_vi hf2 h (fun q3 h => ?_)
      have hf4 := zq_tr (zq_xad (zq_xml (rfl : (15 : Int32) = nI 15) h_x2) (rfl : (14 : Int32) = nI 14)) ec1
      obtain ⟨q5, h⟩ := zq_bc_s h
      obtain ⟨c6, ec6, h⟩ := zq_fo_e h
      have hf7 := zq_tr (zq_xbit (zq_g12m hR hf4 q3 q5) h_x1) ec6
      exact hk _ _ hf7 h
    · refine zq_vi h_x3 h (fun q8 h => ?_)
      refine zq_vi h_x2 h (fun q9 h => ?_)
      refine zq_br (zq_cle (zq_g11 hR h_x3 q8) (zq_g11 hR h_x2 q9)) h (fun h => ?_) (fun h => ?_)
      · refine zq_le_t h (zq_xad h_x3 (rfl : (1 : Int32) = nI 1)) (fun x3_8 c10 hc10 h => ?_)
        exact ih _ _ _ _ _ h_x2 hc10 hR h
      · refine zq_le_t h (zq_xad h_x3 (rfl : (1 : Int32) = nI 1)) (fun x3_9 c11 hc11 h => ?_)
        exact ih _ _ _ _ _ h_x3 hc11 hR h
noncomputable def ez_isMember (k : Nat → Bool) (c_p0 : Nat) (m : Nat) : Bool := ez_isNode (fun c1 => zq_bc (zq_eq c1 0) (k 4294967295) (ez_isMember_13 k c_p0 300 0 1 m)) c_p0
theorem sz_isMember {pl sg : Nat → Nat → Int32} (H : zq_H pl sg) {post : Int32 → Prop} {k : Nat → Bool} (hk : ∀ (x : Int32) (c : Nat), x = nI c → k c = true → post x) {p0 : Int32} {c_p0 : Nat} (h_p0 : p0 = nI c_p0) {u : St2} {m : Nat} (hR : zq_R pl sg m u) (h : ez_isMember k c_p0 m = true) : wpX_isMember post u p0 := by
  obtain ⟨f0_first, f0_waiting, f0_holder, f0_wrong, a1, a2, a3, a4, a5, a6, a7, a8, a9, a10, a11, a12, a13, a14, a15, a16, a17⟩ := u
  unfold wpX_isMember
  unfold ez_isMember at h
  refine sz_isNode H ?_ h_p0 h
  intro r_1 c1 hc1 h
  refine zq_br (zq_ceq hc1 (rfl : (0 : Int32) = nI 0)) h (fun h => ?_) (fun h => ?_)
  · exact hk _ _ zq_m1 h
  · exact ⟨300, sz_isMember_13 H hk h_p0 300 _ _ _ _ _ (rfl : (0 : Int32) = nI 0) (rfl : (1 : Int32) = nI 1) hR h⟩
noncomputable def ez_leader (k : Nat → Bool) (m : Nat) : Bool := ez_leaderNow (fun c1 => zq_bc (zq_le 0 c1) (k c1) (k 4294967294)) m
theorem sz_leader {pl sg : Nat → Nat → Int32} (H : zq_H pl sg) {post : Int32 → Prop} {k : Nat → Bool} (hk : ∀ (x : Int32) (c : Nat), x = nI c → k c = true → post x) {u : St2} {m : Nat} (hR : zq_R pl sg m u) (h : ez_leader k m = true) : wpX_leader post u := by
  obtain ⟨f0_first, f0_waiting, f0_holder, f0_wrong, a1, a2, a3, a4, a5, a6, a7, a8, a9, a10, a11, a12, a13, a14, a15, a16, a17⟩ := u
  unfold wpX_leader
  unfold ez_leader at h
  refine sz_leaderNow H ?_ hR h
  intro r_1 c1 hc1 h
  refine zq_br (zq_cle (rfl : (0 : Int32) = nI 0) hc1) h (fun h => ?_) (fun h => ?_)
  · exact hk _ _ hc1 h
  · exact hk _ _ zq_m2 h
noncomputable def ez_pending (k : Nat → Bool) (m : Nat) : Bool := zq_bc (zq_lt (zq_rd m 2) 0) (k 0) (k 1)
theorem sz_pending {pl sg : Nat → Nat → Int32} (H : zq_H pl sg) {post : Int32 → Prop} {k : Nat → Bool} (hk : ∀ (x : Int32) (c : Nat), x = nI c → k c = true → post x) {u : St2} {m : Nat} (hR : zq_R pl sg m u) (h : ez_pending k m = true) : wpX_pending post u := by
  obtain ⟨f0_first, f0_waiting, f0_holder, f0_wrong, a1, a2, a3, a4, a5, a6, a7, a8, a9, a10, a11, a12, a13, a14, a15, a16, a17⟩ := u
  unfold wpX_pending
  unfold ez_pending at h
  refine zq_br (zq_clt (zq_g_f3 hR) (rfl : (0 : Int32) = nI 0)) h (fun h => ?_) (fun h => ?_)
  · exact hk _ _ (rfl : (0 : Int32) = nI 0) h
  · exact hk _ _ (rfl : (1 : Int32) = nI 1) h
noncomputable def ez_same (k : Nat → Bool) (c_p0 : Nat) (c_p1 : Nat) (m : Nat) : Bool := ez_isNode (fun c1 => zq_bc (zq_eq c1 0) (k 4294967295) (ez_isNode (fun c2 => zq_bc (zq_eq c2 0) (k 4294967295) (ez_areSame (fun c3 => zq_bc (zq_eq c3 0) (k 0) (k 1)) c_p0 c_p1 m)) c_p1)) c_p0
theorem sz_same {pl sg : Nat → Nat → Int32} (H : zq_H pl sg) {post : Int32 → Prop} {k : Nat → Bool} (hk : ∀ (x : Int32) (c : Nat), x = nI c → k c = true → post x) {p0 : Int32} {c_p0 : Nat} (h_p0 : p0 = nI c_p0) {p1 : Int32} {c_p1 : Nat} (h_p1 : p1 = nI c_p1) {u : St2} {m : Nat} (hR : zq_R pl sg m u) (h : ez_same k c_p0 c_p1 m = true) : wpX_same post u p0 p1 := by
  obtain ⟨f0_first, f0_waiting, f0_holder, f0_wrong, a1, a2, a3, a4, a5, a6, a7, a8, a9, a10, a11, a12, a13, a14, a15, a16, a17⟩ := u
  unfold wpX_same
  unfold ez_same at h
  refine sz_isNode H ?_ h_p0 h
  intro r_1 c1 hc1 h
  refine zq_br (zq_ceq hc1 (rfl : (0 : Int32) = nI 0)) h (fun h => ?_) (fun h => ?_)
  · exact hk _ _ zq_m1 h
  · refine sz_isNode H ?_ h_p1 h
    intro r_3 c2 hc2 h
    refine zq_br (zq_ceq hc2 (rfl : (0 : Int32) = nI 0)) h (fun h => ?_) (fun h => ?_)
    · exact hk _ _ zq_m1 h
    · refine sz_areSame H ?_ h_p0 h_p1 hR h
      intro r_5 c3 hc3 h
      refine zq_br (zq_ceq hc3 (rfl : (0 : Int32) = nI 0)) h (fun h => ?_) (fun h => ?_)
      · exact hk _ _ (rfl : (0 : Int32) = nI 0) h
      · exact hk _ _ (rfl : (1 : Int32) = nI 1) h
noncomputable def ez_start_23 (k : Nat → Nat → Bool) (c_x1 : Nat) (c_z0 : Nat) (m : Nat) : Bool := zq_bc (zq_bl c_x1 5) (zq_fo (zq_wr m (Nat.add 4 c_x1) 1) (fun m1 => ez_settle (fun m2 => k c_z0 m2) m1)) false
theorem sz_start_23 {pl sg : Nat → Nat → Int32} (H : zq_H pl sg) {post : Int32 → St2 → Prop} {k : Nat → Nat → Bool} (hk : ∀ (x : Int32) (c : Nat) (u : St2) (m : Nat), x = nI c → zq_R pl sg m u → k c m = true → post x u) {f0_first : Int32} {f0_waiting : Int32} {f0_holder : Int32} {f0_wrong : Int32} {a1 : Nat → Int32} {a2 : Nat → Int32} {a3 : Nat → Int32} {a4 : Nat → Int32} {a5 : Nat → Int32} {a6 : Nat → Int32} {a7 : Nat → Int32} {a8 : Nat → Int32} {a9 : Nat → Int32} {a10 : Nat → Int32} {a11 : Nat → Int32} {a12 : Nat → Int32} {a13 : Nat → Int32} {a14 : Nat → Int32} {a15 : Nat → Int32} {a16 : Nat → Int32} {a17 : Nat → Int32} {x1 : Int32} {c_x1 : Nat} (h_x1 : x1 = nI c_x1) {z0 : Int32} {c_z0 : Nat} (h_z0 : z0 = nI c_z0) {m : Nat} (hR : zq_R pl sg m (f0_first, f0_waiting, f0_holder, f0_wrong, a1, a2, a3, a4, a5, a6, a7, a8, a9, a10, a11, a12, a13, a14, a15, a16, a17)) (h : ez_start_23 k c_x1 c_z0 m = true) : wX_start_23 post x1 z0 f0_first f0_waiting f0_holder f0_wrong a1 a2 a3 a4 a5 a6 a7 a8 a9 a10 a11 a12 a13 a14 a15 a16 a17 := by
  unfold wX_start_23
  unfold ez_start_23 at h
  refine zq_st1 hR h_x1 (rfl : (1 : Int32) = nI 1) h (fun a1_6 m1 hR h => ?_)
  refine sz_settle H ?_ hR h
  intro u m2 hR h
  obtain ⟨f0_first_8, f0_waiting_9, f0_holder_10, f0_wrong_11, am321_14, am322_17, am323_20, am324_23, am325_26, am326_29, am327_32, am328_35, am329_38, am3210_41, am3211_44, am3212_47, am3213_50, am3214_53, am3215_56, am3216_59, am3217_62⟩ := u
  exact hk _ _ _ _ h_z0 hR h
noncomputable def ez_start (k : Nat → Nat → Bool) (c_p0 : Nat) (m : Nat) : Bool := ez_isNode (fun c1 => zq_bc (zq_eq c1 0) (k 4294967295 m) (zq_bc (zq_bl c_p0 5) (zq_bc (zq_eq (zq_rd m (Nat.add 4 c_p0)) 0) (ez_start_23 k c_p0 1 m) (ez_start_23 k c_p0 0 m)) false)) c_p0
theorem sz_start {pl sg : Nat → Nat → Int32} (H : zq_H pl sg) {post : Int32 → St2 → Prop} {k : Nat → Nat → Bool} (hk : ∀ (x : Int32) (c : Nat) (u : St2) (m : Nat), x = nI c → zq_R pl sg m u → k c m = true → post x u) {p0 : Int32} {c_p0 : Nat} (h_p0 : p0 = nI c_p0) {u : St2} {m : Nat} (hR : zq_R pl sg m u) (h : ez_start k c_p0 m = true) : wpX_start post u p0 := by
  obtain ⟨f0_first, f0_waiting, f0_holder, f0_wrong, a1, a2, a3, a4, a5, a6, a7, a8, a9, a10, a11, a12, a13, a14, a15, a16, a17⟩ := u
  unfold wpX_start
  unfold ez_start at h
  refine sz_isNode H ?_ h_p0 h
  intro r_1 c1 hc1 h
  refine zq_br (zq_ceq hc1 (rfl : (0 : Int32) = nI 0)) h (fun h => ?_) (fun h => ?_)
  · exact hk _ _ _ _ zq_m1 hR h
  · refine zq_vi h_p0 h (fun q2 h => ?_)
    refine zq_br (zq_ceq (zq_g1 hR h_p0 q2) (rfl : (0 : Int32) = nI 0)) h (fun h => ?_) (fun h => ?_)
    · exact sz_start_23 H hk h_p0 (rfl : (1 : Int32) = nI 1) hR h
    · exact sz_start_23 H hk h_p0 (rfl : (0 : Int32) = nI 0) hR h
noncomputable def ez_member_157 (k : Nat → Nat → Bool) (c_x3 : Nat) (c_z0 : Nat) (c_z1 : Nat) (m : Nat) : Bool := zq_bc (zq_bl c_z1 25) (zq_fo (zq_wr m (Nat.add 89 c_z1) c_z0) (fun m1 => ez_spread (fun m2 => ez_spread (fun m3 => ez_settle (fun m4 => k 1 m4) m3) c_x3 m2) c_x3 m1)) false
theorem sz_member_157 {pl sg : Nat → Nat → Int32} (H : zq_H pl sg) {post : Int32 → St2 → Prop} {k : Nat → Nat → Bool} (hk : ∀ (x : Int32) (c : Nat) (u : St2) (m : Nat), x = nI c → zq_R pl sg m u → k c m = true → post x u) {f0_first : Int32} {f0_waiting : Int32} {f0_holder : Int32} {f0_wrong : Int32} {am1161 : Nat → Int32} {am1162 : Nat → Int32} {am1163 : Nat → Int32} {am1164 : Nat → Int32} {am1165 : Nat → Int32} {am1166 : Nat → Int32} {am1167 : Nat → Int32} {am1168 : Nat → Int32} {am1169 : Nat → Int32} {am11610 : Nat → Int32} {am11611 : Nat → Int32} {am11612 : Nat → Int32} {am11613 : Nat → Int32} {am11614 : Nat → Int32} {am11615 : Nat → Int32} {am11616 : Nat → Int32} {am11617 : Nat → Int32} {x3 : Int32} {c_x3 : Nat} (h_x3 : x3 = nI c_x3) {z0 : Int32} {c_z0 : Nat} (h_z0 : z0 = nI c_z0) {z1 : Int32} {c_z1 : Nat} (h_z1 : z1 = nI c_z1) {m : Nat} (hR : zq_R pl sg m (f0_first, f0_waiting, f0_holder, f0_wrong, am1161, am1162, am1163, am1164, am1165, am1166, am1167, am1168, am1169, am11610, am11611, am11612, am11613, am11614, am11615, am11616, am11617)) (h : ez_member_157 k c_x3 c_z0 c_z1 m = true) : wX_member_157 post x3 z0 z1 f0_first f0_waiting f0_holder f0_wrong am1161 am1162 am1163 am1164 am1165 am1166 am1167 am1168 am1169 am11610 am11611 am11612 am11613 am11614 am11615 am11616 am11617 := by
  unfold wX_member_157
  unfold ez_member_157 at h
  refine zq_st15 hR h_z1 h_z0 h (fun am11615_76 m1 hR h => ?_)
  refine sz_spread H ?_ h_x3 hR h
  intro u m2 hR h
  obtain ⟨f0_first_78, f0_waiting_79, f0_holder_80, f0_wrong_81, am1601_84, am1602_87, am1603_90, am1604_93, am1605_96, am1606_99, am1607_102, am1608_105, am1609_108, am16010_111, am16011_114, am16012_117, am16013_120, am16014_123, am16015_126, am16016_129, am16017_132⟩ := u
  refine sz_spread H ?_ h_x3 hR h
  intro u m3 hR h
  obtain ⟨f0_first_134, f0_waiting_135, f0_holder_136, f0_wrong_137, am1651_140, am1652_143, am1653_146, am1654_149, am1655_152, am1656_155, am1657_158, am1658_161, am1659_164, am16510_167, am16511_170, am16512_173, am16513_176, am16514_179, am16515_182, am16516_185, am16517_188⟩ := u
  refine sz_settle H ?_ hR h
  intro u m4 hR h
  obtain ⟨f0_first_190, f0_waiting_191, f0_holder_192, f0_wrong_193, am1691_196, am1692_199, am1693_202, am1694_205, am1695_208, am1696_211, am1697_214, am1698_217, am1699_220, am16910_223, am16911_226, am16912_229, am16913_232, am16914_235, am16915_238, am16916_241, am16917_244⟩ := u
  exact hk _ _ _ _ (rfl : (1 : Int32) = nI 1) hR h
noncomputable def ez_member_114 (k : Nat → Nat → Bool) (c_x1 : Nat) (c_x3 : Nat) (c_z0 : Nat) (c_z1 : Nat) (m : Nat) : Bool := ez_write (fun m1 => ez_lastOf (fun c2 => zq_fo (zq_ad (zq_ml 5 c_x3) c_x1) (fun c3 => zq_bc (zq_bl c3 25) (zq_fo (zq_wr m1 (Nat.add 64 c3) c2) (fun m5 => zq_bc (zq_eq c_x1 c_x3) (ez_lastOf (fun c6 => ez_member_157 k c_x3 c6 c3 m5) c_x3 m5) (ez_member_157 k c_x3 0 c3 m5))) false)) c_x3 m1) c_z1 c_z0 0 c_x1 m
theorem sz_member_114 {pl sg : Nat → Nat → Int32} (H : zq_H pl sg) {post : Int32 → St2 → Prop} {k : Nat → Nat → Bool} (hk : ∀ (x : Int32) (c : Nat) (u : St2) (m : Nat), x = nI c → zq_R pl sg m u → k c m = true → post x u) {f0_first : Int32} {f0_waiting : Int32} {f0_holder : Int32} {f0_wrong : Int32} {a1 : Nat → Int32} {a2 : Nat → Int32} {a3 : Nat → Int32} {a4 : Nat → Int32} {a5 : Nat → Int32} {a6 : Nat → Int32} {a7 : Nat → Int32} {a8 : Nat → Int32} {a9 : Nat → Int32} {a10 : Nat → Int32} {a11 : Nat → Int32} {a12 : Nat → Int32} {a13 : Nat → Int32} {a14 : Nat → Int32} {a15 : Nat → Int32} {a16 : Nat → Int32} {a17 : Nat → Int32} {x1 : Int32} {c_x1 : Nat} (h_x1 : x1 = nI c_x1) {x3 : Int32} {c_x3 : Nat} (h_x3 : x3 = nI c_x3) {z0 : Int32} {c_z0 : Nat} (h_z0 : z0 = nI c_z0) {z1 : Int32} {c_z1 : Nat} (h_z1 : z1 = nI c_z1) {m : Nat} (hR : zq_R pl sg m (f0_first, f0_waiting, f0_holder, f0_wrong, a1, a2, a3, a4, a5, a6, a7, a8, a9, a10, a11, a12, a13, a14, a15, a16, a17)) (h : ez_member_114 k c_x1 c_x3 c_z0 c_z1 m = true) : wX_member_114 post x1 x3 z0 z1 f0_first f0_waiting f0_holder f0_wrong a1 a2 a3 a4 a5 a6 a7 a8 a9 a10 a11 a12 a13 a14 a15 a16 a17 := by
  unfold wX_member_114
  unfold ez_member_114 at h
  refine sz_write H ?_ h_z1 h_z0 (rfl : (0 : Int32) = nI 0) h_x1 hR h
  intro u m1 hR h
  obtain ⟨f0_first_16, f0_waiting_17, f0_holder_18, f0_wrong_19, am1161_22, am1162_25, am1163_28, am1164_31, am1165_34, am1166_37, am1167_40, am1168_43, am1169_46, am11610_49, am11611_52, am11612_55, am11613_58, am11614_61, am11615_64, am11616_67, am11617_70⟩ := u
  refine sz_lastOf H ?_ h_x3 hR h
  intro r_71 c2 hc2 h
  obtain ⟨c3, ec3, h⟩ := zq_fo_e h
  have hf4 := zq_tr (zq_xad (zq_xml (rfl : (5 : Int32) = nI 5) h_x3) h_x1) ec3
  refine zq_st14 hR hf4 hc2 h (fun am11614_73 m5 hR h => ?_)
  refine zq_br (zq_ceq h_x1 h_x3) h (fun h => ?_) (fun h => ?_)
  · refine sz_lastOf H ?_ h_x3 hR h
    intro r_245 c6 hc6 h
    have hf7 := zq_tr (zq_xad (zq_xml (rfl : (5 : Int32) = nI 5) h_x3) h_x1) ec3
    exact sz_member_157 H hk h_x3 hc6 hf7 hR h
  · have hf8 := zq_tr (zq_xad (zq_xml (rfl : (5 : Int32) = nI 5) h_x3) h_x1) ec3
    exact sz_member_157 H hk h_x3 (rfl : (0 : Int32) = nI 0) hf8 hR h
noncomputable def ez_member_81 (k : Nat → Nat → Bool) (c_x1 : Nat) (c_x2 : Nat) (c_x3 : Nat) (c_z0 : Nat) (m : Nat) : Bool := ez_reachedBy (fun c1 => ez_isMost (fun c2 => zq_bc (zq_eq c2 0) (k 4294967291 m) (zq_bc (zq_eq c_x2 0) (ez_member_114 k c_x1 c_x3 5 c_x3 m) (ez_member_114 k c_x1 c_x3 4 c_x3 m))) c1 c_z0) c_x3 m
theorem sz_member_81 {pl sg : Nat → Nat → Int32} (H : zq_H pl sg) {post : Int32 → St2 → Prop} {k : Nat → Nat → Bool} (hk : ∀ (x : Int32) (c : Nat) (u : St2) (m : Nat), x = nI c → zq_R pl sg m u → k c m = true → post x u) {f0_first : Int32} {f0_waiting : Int32} {f0_holder : Int32} {f0_wrong : Int32} {a1 : Nat → Int32} {a2 : Nat → Int32} {a3 : Nat → Int32} {a4 : Nat → Int32} {a5 : Nat → Int32} {a6 : Nat → Int32} {a7 : Nat → Int32} {a8 : Nat → Int32} {a9 : Nat → Int32} {a10 : Nat → Int32} {a11 : Nat → Int32} {a12 : Nat → Int32} {a13 : Nat → Int32} {a14 : Nat → Int32} {a15 : Nat → Int32} {a16 : Nat → Int32} {a17 : Nat → Int32} {x1 : Int32} {c_x1 : Nat} (h_x1 : x1 = nI c_x1) {x2 : Int32} {c_x2 : Nat} (h_x2 : x2 = nI c_x2) {x3 : Int32} {c_x3 : Nat} (h_x3 : x3 = nI c_x3) {z0 : Int32} {c_z0 : Nat} (h_z0 : z0 = nI c_z0) {m : Nat} (hR : zq_R pl sg m (f0_first, f0_waiting, f0_holder, f0_wrong, a1, a2, a3, a4, a5, a6, a7, a8, a9, a10, a11, a12, a13, a14, a15, a16, a17)) (h : ez_member_81 k c_x1 c_x2 c_x3 c_z0 m = true) : wX_member_81 post x1 x2 x3 z0 f0_first f0_waiting f0_holder f0_wrong a1 a2 a3 a4 a5 a6 a7 a8 a9 a10 a11 a12 a13 a14 a15 a16 a17 := by
  unfold wX_member_81
  unfold ez_member_81 at h
  refine sz_reachedBy H ?_ h_x3 hR h
  intro r_11 c1 hc1 h
  refine sz_isMost H ?_ hc1 h_z0 h
  intro r_12 c2 hc2 h
  refine zq_br (zq_ceq hc2 (rfl : (0 : Int32) = nI 0)) h (fun h => ?_) (fun h => ?_)
  · exact hk _ _ _ _ zq_m5 hR h
  · refine zq_br (zq_ceq h_x2 (rfl : (0 : Int32) = nI 0)) h (fun h => ?_) (fun h => ?_)
    · exact sz_member_114 H hk h_x1 h_x3 (rfl : (5 : Int32) = nI 5) h_x3 hR h
    · exact sz_member_114 H hk h_x1 h_x3 (rfl : (4 : Int32) = nI 4) h_x3 hR h
noncomputable def ez_member_46 (k : Nat → Nat → Bool) (c_x1 : Nat) (c_x2 : Nat) (c_x3 : Nat) (c_x4 : Nat) (c_x5 : Nat) (c_z0 : Nat) (m : Nat) : Bool := zq_bc (zq_eq c_z0 c_x2) (k 0 m) (zq_bc (zq_eq c_x4 c_x5) (k 4294967292 m) (zq_bc (zq_eq c_x2 0) (zq_fo (Nat.land c_x4 (Nat.xor c_x5 4294967295)) (fun c1 => ez_member_81 k c_x1 c_x2 c_x3 c1 m)) (zq_fo (Nat.lor c_x4 c_x5) (fun c3 => ez_member_81 k c_x1 c_x2 c_x3 c3 m))))
theorem sz_member_46 {pl sg : Nat → Nat → Int32} (H : zq_H pl sg) {post : Int32 → St2 → Prop} {k : Nat → Nat → Bool} (hk : ∀ (x : Int32) (c : Nat) (u : St2) (m : Nat), x = nI c → zq_R pl sg m u → k c m = true → post x u) {f0_first : Int32} {f0_waiting : Int32} {f0_holder : Int32} {f0_wrong : Int32} {a1 : Nat → Int32} {a2 : Nat → Int32} {a3 : Nat → Int32} {a4 : Nat → Int32} {a5 : Nat → Int32} {a6 : Nat → Int32} {a7 : Nat → Int32} {a8 : Nat → Int32} {a9 : Nat → Int32} {a10 : Nat → Int32} {a11 : Nat → Int32} {a12 : Nat → Int32} {a13 : Nat → Int32} {a14 : Nat → Int32} {a15 : Nat → Int32} {a16 : Nat → Int32} {a17 : Nat → Int32} {x1 : Int32} {c_x1 : Nat} (h_x1 : x1 = nI c_x1) {x2 : Int32} {c_x2 : Nat} (h_x2 : x2 = nI c_x2) {x3 : Int32} {c_x3 : Nat} (h_x3 : x3 = nI c_x3) {x4 : Int32} {c_x4 : Nat} (h_x4 : x4 = nI c_x4) {x5 : Int32} {c_x5 : Nat} (h_x5 : x5 = nI c_x5) {z0 : Int32} {c_z0 : Nat} (h_z0 : z0 = nI c_z0) {m : Nat} (hR : zq_R pl sg m (f0_first, f0_waiting, f0_holder, f0_wrong, a1, a2, a3, a4, a5, a6, a7, a8, a9, a10, a11, a12, a13, a14, a15, a16, a17)) (h : ez_member_46 k c_x1 c_x2 c_x3 c_x4 c_x5 c_z0 m = true) : wX_member_46 post x1 x2 x3 x4 x5 z0 f0_first f0_waiting f0_holder f0_wrong a1 a2 a3 a4 a5 a6 a7 a8 a9 a10 a11 a12 a13 a14 a15 a16 a17 := by
  unfold wX_member_46
  unfold ez_member_46 at h
  refine zq_br (zq_ceq h_z0 h_x2) h (fun h => ?_) (fun h => ?_)
  · exact hk _ _ _ _ (rfl : (0 : Int32) = nI 0) hR h
  · refine zq_br (zq_ceq h_x4 h_x5) h (fun h => ?_) (fun h => ?_)
    · exact hk _ _ _ _ zq_m4 hR h
    · refine zq_br (zq_ceq h_x2 (rfl : (0 : Int32) = nI 0)) h (fun h => ?_) (fun h => ?_)
      · obtain ⟨c1, ec1, h⟩ := zq_fo_e h
        have hf2 := zq_tr (zq_xand h_x4 (zq_xxor h_x5 zq_m1)) ec1
        exact sz_member_81 H hk h_x1 h_x2 h_x3 hf2 hR h
      · obtain ⟨c3, ec3, h⟩ := zq_fo_e h
        have hf4 := zq_tr (zq_xor h_x4 h_x5) ec3
        exact sz_member_81 H hk h_x1 h_x2 h_x3 hf4 hR h
noncomputable def ez_member (k : Nat → Nat → Bool) (c_p0 : Nat) (c_p1 : Nat) (m : Nat) : Bool := ez_isNode (fun c1 => zq_bc (zq_eq c1 0) (k 4294967295 m) (ez_leaderNow (fun c2 => zq_bc (zq_le 0 c2) (ez_membersFor (fun c3 => zq_fo (zq_sh c_p0) (fun c4 => zq_bc (zq_eq (Nat.land c3 c4) 0) (ez_member_46 k c_p0 c_p1 c2 c3 c4 0 m) (ez_member_46 k c_p0 c_p1 c2 c3 c4 1 m))) c2 m) (k 4294967294 m)) m)) c_p0
theorem sz_member {pl sg : Nat → Nat → Int32} (H : zq_H pl sg) {post : Int32 → St2 → Prop} {k : Nat → Nat → Bool} (hk : ∀ (x : Int32) (c : Nat) (u : St2) (m : Nat), x = nI c → zq_R pl sg m u → k c m = true → post x u) {p0 : Int32} {c_p0 : Nat} (h_p0 : p0 = nI c_p0) {p1 : Int32} {c_p1 : Nat} (h_p1 : p1 = nI c_p1) {u : St2} {m : Nat} (hR : zq_R pl sg m u) (h : ez_member k c_p0 c_p1 m = true) : wpX_member post u p0 p1 := by
  obtain ⟨f0_first, f0_waiting, f0_holder, f0_wrong, a1, a2, a3, a4, a5, a6, a7, a8, a9, a10, a11, a12, a13, a14, a15, a16, a17⟩ := u
  unfold wpX_member
  unfold ez_member at h
  refine sz_isNode H ?_ h_p0 h
  intro r_1 c1 hc1 h
  refine zq_br (zq_ceq hc1 (rfl : (0 : Int32) = nI 0)) h (fun h => ?_) (fun h => ?_)
  · exact hk _ _ _ _ zq_m1 hR h
  · refine sz_leaderNow H ?_ hR h
    intro r_3 c2 hc2 h
    refine zq_br (zq_cle (rfl : (0 : Int32) = nI 0) hc2) h (fun h => ?_) (fun h => ?_)
    · refine sz_membersFor H ?_ hc2 hR h
      intro r_5 c3 hc3 h
      refine zq_le_t h (zq_xsh h_p0) (fun x5_6 c4 hc4 h => ?_)
      refine zq_br (zq_ceq (zq_xand hc3 hc4) (rfl : (0 : Int32) = nI 0)) h (fun h => ?_) (fun h => ?_)
      · exact sz_member_46 H hk h_p0 h_p1 hc2 hc3 hc4 (rfl : (0 : Int32) = nI 0) hR h
      · exact sz_member_46 H hk h_p0 h_p1 hc2 hc3 hc4 (rfl : (1 : Int32) = nI 1) hR h
    · exact hk _ _ _ _ zq_m2 hR h
noncomputable def ez_expect (k : Nat → Bool) (c_p0 : Nat) (m : Nat) : Bool := zq_bc (zq_eq c_p0 0) (zq_fo (zq_ad (zq_rd m 3) 1) (fun c1 => zq_fo (zq_wr m 3 c1) (fun m2 => k m2))) (zq_fo (zq_ad (zq_rd m 3) 0) (fun c3 => zq_fo (zq_wr m 3 c3) (fun m4 => k m4)))
theorem sz_expect {pl sg : Nat → Nat → Int32} (H : zq_H pl sg) {post : St2 → Prop} {k : Nat → Bool} (hk : ∀ (u : St2) (m : Nat), zq_R pl sg m u → k m = true → post u) {p0 : Int32} {c_p0 : Nat} (h_p0 : p0 = nI c_p0) {u : St2} {m : Nat} (hR : zq_R pl sg m u) (h : ez_expect k c_p0 m = true) : wpX_expect post u p0 := by
  obtain ⟨f0_first, f0_waiting, f0_holder, f0_wrong, a1, a2, a3, a4, a5, a6, a7, a8, a9, a10, a11, a12, a13, a14, a15, a16, a17⟩ := u
  unfold wpX_expect
  unfold ez_expect at h
  refine zq_br (zq_ceq h_p0 (rfl : (0 : Int32) = nI 0)) h (fun h => ?_) (fun h => ?_)
  · refine zq_le_t h (zq_xad (zq_g_f4 hR) (rfl : (1 : Int32) = nI 1)) (fun f_2 c1 hc1 h => ?_)
    refine zq_sf4 hR hc1 h (fun m2 hR h => ?_)
    exact hk _ _ hR h
  · refine zq_le_t h (zq_xad (zq_g_f4 hR) (rfl : (0 : Int32) = nI 0)) (fun f_3 c3 hc3 h => ?_)
    refine zq_sf4 hR hc3 h (fun m4 hR h => ?_)
    exact hk _ _ hR h
noncomputable def ez_compare_204 (k : Nat → Bool) (c_z0 : Nat) (m : Nat) : Bool := ez_expect (fun m1 => k m1) c_z0 m
theorem sz_compare_204 {pl sg : Nat → Nat → Int32} (H : zq_H pl sg) {post : St2 → Prop} {k : Nat → Bool} (hk : ∀ (u : St2) (m : Nat), zq_R pl sg m u → k m = true → post u) {f0_first : Int32} {f0_waiting : Int32} {f0_holder : Int32} {f0_wrong : Int32} {a1 : Nat → Int32} {a2 : Nat → Int32} {a3 : Nat → Int32} {a4 : Nat → Int32} {a5 : Nat → Int32} {a6 : Nat → Int32} {a7 : Nat → Int32} {a8 : Nat → Int32} {a9 : Nat → Int32} {a10 : Nat → Int32} {a11 : Nat → Int32} {a12 : Nat → Int32} {a13 : Nat → Int32} {a14 : Nat → Int32} {a15 : Nat → Int32} {a16 : Nat → Int32} {a17 : Nat → Int32} {z0 : Int32} {c_z0 : Nat} (h_z0 : z0 = nI c_z0) {m : Nat} (hR : zq_R pl sg m (f0_first, f0_waiting, f0_holder, f0_wrong, a1, a2, a3, a4, a5, a6, a7, a8, a9, a10, a11, a12, a13, a14, a15, a16, a17)) (h : ez_compare_204 k c_z0 m = true) : wX_compare_204 post z0 f0_first f0_waiting f0_holder f0_wrong a1 a2 a3 a4 a5 a6 a7 a8 a9 a10 a11 a12 a13 a14 a15 a16 a17 := by
  unfold wX_compare_204
  unfold ez_compare_204 at h
  refine sz_expect H ?_ h_z0 hR h
  intro u m1 hR h
  obtain ⟨f0_first_15, f0_waiting_16, f0_holder_17, f0_wrong_18, am2041_21, am2042_24, am2043_27, am2044_30, am2045_33, am2046_36, am2047_39, am2048_42, am2049_45, am20410_48, am20411_51, am20412_54, am20413_57, am20414_60, am20415_63, am20416_66, am20417_69⟩ := u
  exact hk _ _ hR h
noncomputable def ez_compare_199 (k : Nat → Bool) (m : Nat) : Bool := ez_compare_204 k 1 m
theorem sz_compare_199 {pl sg : Nat → Nat → Int32} (H : zq_H pl sg) {post : St2 → Prop} {k : Nat → Bool} (hk : ∀ (u : St2) (m : Nat), zq_R pl sg m u → k m = true → post u) {f0_first : Int32} {f0_waiting : Int32} {f0_holder : Int32} {f0_wrong : Int32} {a1 : Nat → Int32} {a2 : Nat → Int32} {a3 : Nat → Int32} {a4 : Nat → Int32} {a5 : Nat → Int32} {a6 : Nat → Int32} {a7 : Nat → Int32} {a8 : Nat → Int32} {a9 : Nat → Int32} {a10 : Nat → Int32} {a11 : Nat → Int32} {a12 : Nat → Int32} {a13 : Nat → Int32} {a14 : Nat → Int32} {a15 : Nat → Int32} {a16 : Nat → Int32} {a17 : Nat → Int32} {m : Nat} (hR : zq_R pl sg m (f0_first, f0_waiting, f0_holder, f0_wrong, a1, a2, a3, a4, a5, a6, a7, a8, a9, a10, a11, a12, a13, a14, a15, a16, a17)) (h : ez_compare_199 k m = true) : wX_compare_199 post f0_first f0_waiting f0_holder f0_wrong a1 a2 a3 a4 a5 a6 a7 a8 a9 a10 a11 a12 a13 a14 a15 a16 a17 := by
  unfold wX_compare_199
  unfold ez_compare_199 at h
  exact sz_compare_204 H hk (rfl : (1 : Int32) = nI 1) hR h
noncomputable def ez_compare_165 (k : Nat → Bool) (kJ64 : Nat → Nat → Bool) (c_x1 : Nat) (c_x2 : Nat) (c_x4 : Nat) (c_x5 : Nat) (c_z0 : Nat) (m : Nat) : Bool := ez_expect (fun m1 => zq_fo (zq_ad c_x5 1) (fun c2 => kJ64 c2 m1)) c_z0 m
theorem sz_compare_165 {pl sg : Nat → Nat → Int32} (H : zq_H pl sg) {post : St2 → Prop} {k : Nat → Bool} (hk : ∀ (u : St2) (m : Nat), zq_R pl sg m u → k m = true → post u) {f0_first : Int32} {f0_waiting : Int32} {f0_holder : Int32} {f0_wrong : Int32} {am1401 : Nat → Int32} {am1402 : Nat → Int32} {am1403 : Nat → Int32} {am1404 : Nat → Int32} {am1405 : Nat → Int32} {am1406 : Nat → Int32} {am1407 : Nat → Int32} {am1408 : Nat → Int32} {am1409 : Nat → Int32} {am14010 : Nat → Int32} {am14011 : Nat → Int32} {am14012 : Nat → Int32} {am14013 : Nat → Int32} {am14014 : Nat → Int32} {am14015 : Nat → Int32} {am14016 : Nat → Int32} {am14017 : Nat → Int32} {J64 : Int32 → Int32 → Int32 → Int32 → Int32 → (Nat → Int32) → (Nat → Int32) → (Nat → Int32) → (Nat → Int32) → (Nat → Int32) → (Nat → Int32) → (Nat → Int32) → (Nat → Int32) → (Nat → Int32) → (Nat → Int32) → (Nat → Int32) → (Nat → Int32) → (Nat → Int32) → (Nat → Int32) → (Nat → Int32) → (Nat → Int32) → (Nat → Int32) → Prop} {kJ64 : Nat → Nat → Bool} (hJ64 : ∀ (x5_x : Int32) (x5_c : Nat) (m : Nat) (j_f0_first : Int32) (j_f0_waiting : Int32) (j_f0_holder : Int32) (j_f0_wrong : Int32) (j_a1 : Nat → Int32) (j_a2 : Nat → Int32) (j_a3 : Nat → Int32) (j_a4 : Nat → Int32) (j_a5 : Nat → Int32) (j_a6 : Nat → Int32) (j_a7 : Nat → Int32) (j_a8 : Nat → Int32) (j_a9 : Nat → Int32) (j_a10 : Nat → Int32) (j_a11 : Nat → Int32) (j_a12 : Nat → Int32) (j_a13 : Nat → Int32) (j_a14 : Nat → Int32) (j_a15 : Nat → Int32) (j_a16 : Nat → Int32) (j_a17 : Nat → Int32), x5_x = nI x5_c → zq_R pl sg m (j_f0_first, j_f0_waiting, j_f0_holder, j_f0_wrong, j_a1, j_a2, j_a3, j_a4, j_a5, j_a6, j_a7, j_a8, j_a9, j_a10, j_a11, j_a12, j_a13, j_a14, j_a15, j_a16, j_a17) → kJ64 x5_c m = true → J64 x5_x j_f0_first j_f0_waiting j_f0_holder j_f0_wrong j_a1 j_a2 j_a3 j_a4 j_a5 j_a6 j_a7 j_a8 j_a9 j_a10 j_a11 j_a12 j_a13 j_a14 j_a15 j_a16 j_a17) {x1 : Int32} {c_x1 : Nat} (h_x1 : x1 = nI c_x1) {x2 : Int32} {c_x2 : Nat} (h_x2 : x2 = nI c_x2) {x4 : Int32} {c_x4 : Nat} (h_x4 : x4 = nI c_x4) {x5 : Int32} {c_x5 : Nat} (h_x5 : x5 = nI c_x5) {z0 : Int32} {c_z0 : Nat} (h_z0 : z0 = nI c_z0) {m : Nat} (hR : zq_R pl sg m (f0_first, f0_waiting, f0_holder, f0_wrong, am1401, am1402, am1403, am1404, am1405, am1406, am1407, am1408, am1409, am14010, am14011, am14012, am14013, am14014, am14015, am14016, am14017)) (h : ez_compare_165 k kJ64 c_x1 c_x2 c_x4 c_x5 c_z0 m = true) : wX_compare_165 post J64 x1 x2 x4 x5 z0 f0_first f0_waiting f0_holder f0_wrong am1401 am1402 am1403 am1404 am1405 am1406 am1407 am1408 am1409 am14010 am14011 am14012 am14013 am14014 am14015 am14016 am14017 := by
  unfold wX_compare_165
  unfold ez_compare_165 at h
  refine sz_expect H ?_ h_z0 hR h
  intro u m1 hR h
  obtain ⟨f0_first_136, f0_waiting_137, f0_holder_138, f0_wrong_139, am1651_142, am1652_145, am1653_148, am1654_151, am1655_154, am1656_157, am1657_160, am1658_163, am1659_166, am16510_169, am16511_172, am16512_175, am16513_178, am16514_181, am16515_184, am16516_187, am16517_190⟩ := u
  refine zq_le_t h (zq_xad h_x5 (rfl : (1 : Int32) = nI 1)) (fun x5_191 c2 hc2 h => ?_)
  exact hJ64 _ _ _ _ _ _ _ _ _ _ _ _ _ _ _ _ _ _ _ _ _ _ _ _ hc2 hR h
noncomputable def ez_compare_160 (k : Nat → Bool) (kJ64 : Nat → Nat → Bool) (c_x1 : Nat) (c_x2 : Nat) (c_x4 : Nat) (c_x5 : Nat) (m : Nat) : Bool := ez_compare_165 k kJ64 c_x1 c_x2 c_x4 c_x5 1 m
theorem sz_compare_160 {pl sg : Nat → Nat → Int32} (H : zq_H pl sg) {post : St2 → Prop} {k : Nat → Bool} (hk : ∀ (u : St2) (m : Nat), zq_R pl sg m u → k m = true → post u) {f0_first : Int32} {f0_waiting : Int32} {f0_holder : Int32} {f0_wrong : Int32} {am1401 : Nat → Int32} {am1402 : Nat → Int32} {am1403 : Nat → Int32} {am1404 : Nat → Int32} {am1405 : Nat → Int32} {am1406 : Nat → Int32} {am1407 : Nat → Int32} {am1408 : Nat → Int32} {am1409 : Nat → Int32} {am14010 : Nat → Int32} {am14011 : Nat → Int32} {am14012 : Nat → Int32} {am14013 : Nat → Int32} {am14014 : Nat → Int32} {am14015 : Nat → Int32} {am14016 : Nat → Int32} {am14017 : Nat → Int32} {J64 : Int32 → Int32 → Int32 → Int32 → Int32 → (Nat → Int32) → (Nat → Int32) → (Nat → Int32) → (Nat → Int32) → (Nat → Int32) → (Nat → Int32) → (Nat → Int32) → (Nat → Int32) → (Nat → Int32) → (Nat → Int32) → (Nat → Int32) → (Nat → Int32) → (Nat → Int32) → (Nat → Int32) → (Nat → Int32) → (Nat → Int32) → (Nat → Int32) → Prop} {kJ64 : Nat → Nat → Bool} (hJ64 : ∀ (x5_x : Int32) (x5_c : Nat) (m : Nat) (j_f0_first : Int32) (j_f0_waiting : Int32) (j_f0_holder : Int32) (j_f0_wrong : Int32) (j_a1 : Nat → Int32) (j_a2 : Nat → Int32) (j_a3 : Nat → Int32) (j_a4 : Nat → Int32) (j_a5 : Nat → Int32) (j_a6 : Nat → Int32) (j_a7 : Nat → Int32) (j_a8 : Nat → Int32) (j_a9 : Nat → Int32) (j_a10 : Nat → Int32) (j_a11 : Nat → Int32) (j_a12 : Nat → Int32) (j_a13 : Nat → Int32) (j_a14 : Nat → Int32) (j_a15 : Nat → Int32) (j_a16 : Nat → Int32) (j_a17 : Nat → Int32), x5_x = nI x5_c → zq_R pl sg m (j_f0_first, j_f0_waiting, j_f0_holder, j_f0_wrong, j_a1, j_a2, j_a3, j_a4, j_a5, j_a6, j_a7, j_a8, j_a9, j_a10, j_a11, j_a12, j_a13, j_a14, j_a15, j_a16, j_a17) → kJ64 x5_c m = true → J64 x5_x j_f0_first j_f0_waiting j_f0_holder j_f0_wrong j_a1 j_a2 j_a3 j_a4 j_a5 j_a6 j_a7 j_a8 j_a9 j_a10 j_a11 j_a12 j_a13 j_a14 j_a15 j_a16 j_a17) {x1 : Int32} {c_x1 : Nat} (h_x1 : x1 = nI c_x1) {x2 : Int32} {c_x2 : Nat} (h_x2 : x2 = nI c_x2) {x4 : Int32} {c_x4 : Nat} (h_x4 : x4 = nI c_x4) {x5 : Int32} {c_x5 : Nat} (h_x5 : x5 = nI c_x5) {m : Nat} (hR : zq_R pl sg m (f0_first, f0_waiting, f0_holder, f0_wrong, am1401, am1402, am1403, am1404, am1405, am1406, am1407, am1408, am1409, am14010, am14011, am14012, am14013, am14014, am14015, am14016, am14017)) (h : ez_compare_160 k kJ64 c_x1 c_x2 c_x4 c_x5 m = true) : wX_compare_160 post J64 x1 x2 x4 x5 f0_first f0_waiting f0_holder f0_wrong am1401 am1402 am1403 am1404 am1405 am1406 am1407 am1408 am1409 am14010 am14011 am14012 am14013 am14014 am14015 am14016 am14017 := by
  unfold wX_compare_160
  unfold ez_compare_160 at h
  exact sz_compare_165 H hk hJ64 h_x1 h_x2 h_x4 h_x5 (rfl : (1 : Int32) = nI 1) hR h
noncomputable def ez_compare_140 (k : Nat → Bool) (kJ64 : Nat → Nat → Bool) (c_x1 : Nat) (c_x2 : Nat) (c_x4 : Nat) (c_x5 : Nat) (c_x6 : Nat) (c_z0 : Nat) (m : Nat) : Bool := ez_expect (fun m1 => zq_bc (zq_eq c_x6 0) (ez_compare_160 k kJ64 c_x1 c_x2 c_x4 c_x5 m1) (ez_isSameEntry (fun c2 => zq_bc (zq_eq c2 0) (ez_compare_165 k kJ64 c_x1 c_x2 c_x4 c_x5 0 m1) (ez_compare_160 k kJ64 c_x1 c_x2 c_x4 c_x5 m1)) c_x1 c_x2 c_x5 m1)) c_z0 m
theorem sz_compare_140 {pl sg : Nat → Nat → Int32} (H : zq_H pl sg) {post : St2 → Prop} {k : Nat → Bool} (hk : ∀ (u : St2) (m : Nat), zq_R pl sg m u → k m = true → post u) {f0_first : Int32} {f0_waiting : Int32} {f0_holder : Int32} {f0_wrong : Int32} {a1 : Nat → Int32} {a2 : Nat → Int32} {a3 : Nat → Int32} {a4 : Nat → Int32} {a5 : Nat → Int32} {a6 : Nat → Int32} {a7 : Nat → Int32} {a8 : Nat → Int32} {a9 : Nat → Int32} {a10 : Nat → Int32} {a11 : Nat → Int32} {a12 : Nat → Int32} {a13 : Nat → Int32} {a14 : Nat → Int32} {a15 : Nat → Int32} {a16 : Nat → Int32} {a17 : Nat → Int32} {J64 : Int32 → Int32 → Int32 → Int32 → Int32 → (Nat → Int32) → (Nat → Int32) → (Nat → Int32) → (Nat → Int32) → (Nat → Int32) → (Nat → Int32) → (Nat → Int32) → (Nat → Int32) → (Nat → Int32) → (Nat → Int32) → (Nat → Int32) → (Nat → Int32) → (Nat → Int32) → (Nat → Int32) → (Nat → Int32) → (Nat → Int32) → (Nat → Int32) → Prop} {kJ64 : Nat → Nat → Bool} (hJ64 : ∀ (x5_x : Int32) (x5_c : Nat) (m : Nat) (j_f0_first : Int32) (j_f0_waiting : Int32) (j_f0_holder : Int32) (j_f0_wrong : Int32) (j_a1 : Nat → Int32) (j_a2 : Nat → Int32) (j_a3 : Nat → Int32) (j_a4 : Nat → Int32) (j_a5 : Nat → Int32) (j_a6 : Nat → Int32) (j_a7 : Nat → Int32) (j_a8 : Nat → Int32) (j_a9 : Nat → Int32) (j_a10 : Nat → Int32) (j_a11 : Nat → Int32) (j_a12 : Nat → Int32) (j_a13 : Nat → Int32) (j_a14 : Nat → Int32) (j_a15 : Nat → Int32) (j_a16 : Nat → Int32) (j_a17 : Nat → Int32), x5_x = nI x5_c → zq_R pl sg m (j_f0_first, j_f0_waiting, j_f0_holder, j_f0_wrong, j_a1, j_a2, j_a3, j_a4, j_a5, j_a6, j_a7, j_a8, j_a9, j_a10, j_a11, j_a12, j_a13, j_a14, j_a15, j_a16, j_a17) → kJ64 x5_c m = true → J64 x5_x j_f0_first j_f0_waiting j_f0_holder j_f0_wrong j_a1 j_a2 j_a3 j_a4 j_a5 j_a6 j_a7 j_a8 j_a9 j_a10 j_a11 j_a12 j_a13 j_a14 j_a15 j_a16 j_a17) {x1 : Int32} {c_x1 : Nat} (h_x1 : x1 = nI c_x1) {x2 : Int32} {c_x2 : Nat} (h_x2 : x2 = nI c_x2) {x4 : Int32} {c_x4 : Nat} (h_x4 : x4 = nI c_x4) {x5 : Int32} {c_x5 : Nat} (h_x5 : x5 = nI c_x5) {x6 : Int32} {c_x6 : Nat} (h_x6 : x6 = nI c_x6) {z0 : Int32} {c_z0 : Nat} (h_z0 : z0 = nI c_z0) {m : Nat} (hR : zq_R pl sg m (f0_first, f0_waiting, f0_holder, f0_wrong, a1, a2, a3, a4, a5, a6, a7, a8, a9, a10, a11, a12, a13, a14, a15, a16, a17)) (h : ez_compare_140 k kJ64 c_x1 c_x2 c_x4 c_x5 c_x6 c_z0 m = true) : wX_compare_140 post J64 x1 x2 x4 x5 x6 z0 f0_first f0_waiting f0_holder f0_wrong a1 a2 a3 a4 a5 a6 a7 a8 a9 a10 a11 a12 a13 a14 a15 a16 a17 := by
  unfold wX_compare_140
  unfold ez_compare_140 at h
  refine sz_expect H ?_ h_z0 hR h
  intro u m1 hR h
  obtain ⟨f0_first_79, f0_waiting_80, f0_holder_81, f0_wrong_82, am1401_85, am1402_88, am1403_91, am1404_94, am1405_97, am1406_100, am1407_103, am1408_106, am1409_109, am14010_112, am14011_115, am14012_118, am14013_121, am14014_124, am14015_127, am14016_130, am14017_133⟩ := u
  refine zq_br (zq_ceq h_x6 (rfl : (0 : Int32) = nI 0)) h (fun h => ?_) (fun h => ?_)
  · exact sz_compare_160 H hk hJ64 h_x1 h_x2 h_x4 h_x5 hR h
  · refine sz_isSameEntry H ?_ h_x1 h_x2 h_x5 hR h
    intro r_192 c2 hc2 h
    refine zq_br (zq_ceq hc2 (rfl : (0 : Int32) = nI 0)) h (fun h => ?_) (fun h => ?_)
    · exact sz_compare_165 H hk hJ64 h_x1 h_x2 h_x4 h_x5 (rfl : (0 : Int32) = nI 0) hR h
    · exact sz_compare_160 H hk hJ64 h_x1 h_x2 h_x4 h_x5 hR h
noncomputable def ez_compare_135 (k : Nat → Bool) (kJ64 : Nat → Nat → Bool) (c_x1 : Nat) (c_x2 : Nat) (c_x4 : Nat) (c_x5 : Nat) (c_x6 : Nat) (m : Nat) : Bool := ez_compare_140 k kJ64 c_x1 c_x2 c_x4 c_x5 c_x6 1 m
theorem sz_compare_135 {pl sg : Nat → Nat → Int32} (H : zq_H pl sg) {post : St2 → Prop} {k : Nat → Bool} (hk : ∀ (u : St2) (m : Nat), zq_R pl sg m u → k m = true → post u) {f0_first : Int32} {f0_waiting : Int32} {f0_holder : Int32} {f0_wrong : Int32} {a1 : Nat → Int32} {a2 : Nat → Int32} {a3 : Nat → Int32} {a4 : Nat → Int32} {a5 : Nat → Int32} {a6 : Nat → Int32} {a7 : Nat → Int32} {a8 : Nat → Int32} {a9 : Nat → Int32} {a10 : Nat → Int32} {a11 : Nat → Int32} {a12 : Nat → Int32} {a13 : Nat → Int32} {a14 : Nat → Int32} {a15 : Nat → Int32} {a16 : Nat → Int32} {a17 : Nat → Int32} {J64 : Int32 → Int32 → Int32 → Int32 → Int32 → (Nat → Int32) → (Nat → Int32) → (Nat → Int32) → (Nat → Int32) → (Nat → Int32) → (Nat → Int32) → (Nat → Int32) → (Nat → Int32) → (Nat → Int32) → (Nat → Int32) → (Nat → Int32) → (Nat → Int32) → (Nat → Int32) → (Nat → Int32) → (Nat → Int32) → (Nat → Int32) → (Nat → Int32) → Prop} {kJ64 : Nat → Nat → Bool} (hJ64 : ∀ (x5_x : Int32) (x5_c : Nat) (m : Nat) (j_f0_first : Int32) (j_f0_waiting : Int32) (j_f0_holder : Int32) (j_f0_wrong : Int32) (j_a1 : Nat → Int32) (j_a2 : Nat → Int32) (j_a3 : Nat → Int32) (j_a4 : Nat → Int32) (j_a5 : Nat → Int32) (j_a6 : Nat → Int32) (j_a7 : Nat → Int32) (j_a8 : Nat → Int32) (j_a9 : Nat → Int32) (j_a10 : Nat → Int32) (j_a11 : Nat → Int32) (j_a12 : Nat → Int32) (j_a13 : Nat → Int32) (j_a14 : Nat → Int32) (j_a15 : Nat → Int32) (j_a16 : Nat → Int32) (j_a17 : Nat → Int32), x5_x = nI x5_c → zq_R pl sg m (j_f0_first, j_f0_waiting, j_f0_holder, j_f0_wrong, j_a1, j_a2, j_a3, j_a4, j_a5, j_a6, j_a7, j_a8, j_a9, j_a10, j_a11, j_a12, j_a13, j_a14, j_a15, j_a16, j_a17) → kJ64 x5_c m = true → J64 x5_x j_f0_first j_f0_waiting j_f0_holder j_f0_wrong j_a1 j_a2 j_a3 j_a4 j_a5 j_a6 j_a7 j_a8 j_a9 j_a10 j_a11 j_a12 j_a13 j_a14 j_a15 j_a16 j_a17) {x1 : Int32} {c_x1 : Nat} (h_x1 : x1 = nI c_x1) {x2 : Int32} {c_x2 : Nat} (h_x2 : x2 = nI c_x2) {x4 : Int32} {c_x4 : Nat} (h_x4 : x4 = nI c_x4) {x5 : Int32} {c_x5 : Nat} (h_x5 : x5 = nI c_x5) {x6 : Int32} {c_x6 : Nat} (h_x6 : x6 = nI c_x6) {m : Nat} (hR : zq_R pl sg m (f0_first, f0_waiting, f0_holder, f0_wrong, a1, a2, a3, a4, a5, a6, a7, a8, a9, a10, a11, a12, a13, a14, a15, a16, a17)) (h : ez_compare_135 k kJ64 c_x1 c_x2 c_x4 c_x5 c_x6 m = true) : wX_compare_135 post J64 x1 x2 x4 x5 x6 f0_first f0_waiting f0_holder f0_wrong a1 a2 a3 a4 a5 a6 a7 a8 a9 a10 a11 a12 a13 a14 a15 a16 a17 := by
  unfold wX_compare_135
  unfold ez_compare_135 at h
  exact sz_compare_140 H hk hJ64 h_x1 h_x2 h_x4 h_x5 h_x6 (rfl : (1 : Int32) = nI 1) hR h
noncomputable def ez_compare_122 (k : Nat → Bool) (kJ64 : Nat → Nat → Bool) (c_x1 : Nat) (c_x2 : Nat) (c_x4 : Nat) (c_x5 : Nat) (c_x6 : Nat) (c_z0 : Nat) (m : Nat) : Bool := zq_bc (zq_eq c_x6 0) (zq_bc (zq_eq c_z0 0) (ez_compare_135 k kJ64 c_x1 c_x2 c_x4 c_x5 c_x6 m) (ez_compare_140 k kJ64 c_x1 c_x2 c_x4 c_x5 c_x6 0 m)) (ez_compare_135 k kJ64 c_x1 c_x2 c_x4 c_x5 c_x6 m)
theorem sz_compare_122 {pl sg : Nat → Nat → Int32} (H : zq_H pl sg) {post : St2 → Prop} {k : Nat → Bool} (hk : ∀ (u : St2) (m : Nat), zq_R pl sg m u → k m = true → post u) {f0_first : Int32} {f0_waiting : Int32} {f0_holder : Int32} {f0_wrong : Int32} {a1 : Nat → Int32} {a2 : Nat → Int32} {a3 : Nat → Int32} {a4 : Nat → Int32} {a5 : Nat → Int32} {a6 : Nat → Int32} {a7 : Nat → Int32} {a8 : Nat → Int32} {a9 : Nat → Int32} {a10 : Nat → Int32} {a11 : Nat → Int32} {a12 : Nat → Int32} {a13 : Nat → Int32} {a14 : Nat → Int32} {a15 : Nat → Int32} {a16 : Nat → Int32} {a17 : Nat → Int32} {J64 : Int32 → Int32 → Int32 → Int32 → Int32 → (Nat → Int32) → (Nat → Int32) → (Nat → Int32) → (Nat → Int32) → (Nat → Int32) → (Nat → Int32) → (Nat → Int32) → (Nat → Int32) → (Nat → Int32) → (Nat → Int32) → (Nat → Int32) → (Nat → Int32) → (Nat → Int32) → (Nat → Int32) → (Nat → Int32) → (Nat → Int32) → (Nat → Int32) → Prop} {kJ64 : Nat → Nat → Bool} (hJ64 : ∀ (x5_x : Int32) (x5_c : Nat) (m : Nat) (j_f0_first : Int32) (j_f0_waiting : Int32) (j_f0_holder : Int32) (j_f0_wrong : Int32) (j_a1 : Nat → Int32) (j_a2 : Nat → Int32) (j_a3 : Nat → Int32) (j_a4 : Nat → Int32) (j_a5 : Nat → Int32) (j_a6 : Nat → Int32) (j_a7 : Nat → Int32) (j_a8 : Nat → Int32) (j_a9 : Nat → Int32) (j_a10 : Nat → Int32) (j_a11 : Nat → Int32) (j_a12 : Nat → Int32) (j_a13 : Nat → Int32) (j_a14 : Nat → Int32) (j_a15 : Nat → Int32) (j_a16 : Nat → Int32) (j_a17 : Nat → Int32), x5_x = nI x5_c → zq_R pl sg m (j_f0_first, j_f0_waiting, j_f0_holder, j_f0_wrong, j_a1, j_a2, j_a3, j_a4, j_a5, j_a6, j_a7, j_a8, j_a9, j_a10, j_a11, j_a12, j_a13, j_a14, j_a15, j_a16, j_a17) → kJ64 x5_c m = true → J64 x5_x j_f0_first j_f0_waiting j_f0_holder j_f0_wrong j_a1 j_a2 j_a3 j_a4 j_a5 j_a6 j_a7 j_a8 j_a9 j_a10 j_a11 j_a12 j_a13 j_a14 j_a15 j_a16 j_a17) {x1 : Int32} {c_x1 : Nat} (h_x1 : x1 = nI c_x1) {x2 : Int32} {c_x2 : Nat} (h_x2 : x2 = nI c_x2) {x4 : Int32} {c_x4 : Nat} (h_x4 : x4 = nI c_x4) {x5 : Int32} {c_x5 : Nat} (h_x5 : x5 = nI c_x5) {x6 : Int32} {c_x6 : Nat} (h_x6 : x6 = nI c_x6) {z0 : Int32} {c_z0 : Nat} (h_z0 : z0 = nI c_z0) {m : Nat} (hR : zq_R pl sg m (f0_first, f0_waiting, f0_holder, f0_wrong, a1, a2, a3, a4, a5, a6, a7, a8, a9, a10, a11, a12, a13, a14, a15, a16, a17)) (h : ez_compare_122 k kJ64 c_x1 c_x2 c_x4 c_x5 c_x6 c_z0 m = true) : wX_compare_122 post J64 x1 x2 x4 x5 x6 z0 f0_first f0_waiting f0_holder f0_wrong a1 a2 a3 a4 a5 a6 a7 a8 a9 a10 a11 a12 a13 a14 a15 a16 a17 := by
  unfold wX_compare_122
  unfold ez_compare_122 at h
  refine zq_br (zq_ceq h_x6 (rfl : (0 : Int32) = nI 0)) h (fun h => ?_) (fun h => ?_)
  · refine zq_br (zq_ceq h_z0 (rfl : (0 : Int32) = nI 0)) h (fun h => ?_) (fun h => ?_)
    · exact sz_compare_135 H hk hJ64 h_x1 h_x2 h_x4 h_x5 h_x6 hR h
    · exact sz_compare_140 H hk hJ64 h_x1 h_x2 h_x4 h_x5 h_x6 (rfl : (0 : Int32) = nI 0) hR h
  · exact sz_compare_135 H hk hJ64 h_x1 h_x2 h_x4 h_x5 h_x6 hR h
noncomputable def ez_compare_121 (k : Nat → Bool) (kJ64 : Nat → Nat → Bool) (c_x1 : Nat) (c_x2 : Nat) (c_x4 : Nat) (c_x5 : Nat) (c_x6 : Nat) (m : Nat) : Bool := ez_compare_122 k kJ64 c_x1 c_x2 c_x4 c_x5 c_x6 0 m
theorem sz_compare_121 {pl sg : Nat → Nat → Int32} (H : zq_H pl sg) {post : St2 → Prop} {k : Nat → Bool} (hk : ∀ (u : St2) (m : Nat), zq_R pl sg m u → k m = true → post u) {f0_first : Int32} {f0_waiting : Int32} {f0_holder : Int32} {f0_wrong : Int32} {a1 : Nat → Int32} {a2 : Nat → Int32} {a3 : Nat → Int32} {a4 : Nat → Int32} {a5 : Nat → Int32} {a6 : Nat → Int32} {a7 : Nat → Int32} {a8 : Nat → Int32} {a9 : Nat → Int32} {a10 : Nat → Int32} {a11 : Nat → Int32} {a12 : Nat → Int32} {a13 : Nat → Int32} {a14 : Nat → Int32} {a15 : Nat → Int32} {a16 : Nat → Int32} {a17 : Nat → Int32} {J64 : Int32 → Int32 → Int32 → Int32 → Int32 → (Nat → Int32) → (Nat → Int32) → (Nat → Int32) → (Nat → Int32) → (Nat → Int32) → (Nat → Int32) → (Nat → Int32) → (Nat → Int32) → (Nat → Int32) → (Nat → Int32) → (Nat → Int32) → (Nat → Int32) → (Nat → Int32) → (Nat → Int32) → (Nat → Int32) → (Nat → Int32) → (Nat → Int32) → Prop} {kJ64 : Nat → Nat → Bool} (hJ64 : ∀ (x5_x : Int32) (x5_c : Nat) (m : Nat) (j_f0_first : Int32) (j_f0_waiting : Int32) (j_f0_holder : Int32) (j_f0_wrong : Int32) (j_a1 : Nat → Int32) (j_a2 : Nat → Int32) (j_a3 : Nat → Int32) (j_a4 : Nat → Int32) (j_a5 : Nat → Int32) (j_a6 : Nat → Int32) (j_a7 : Nat → Int32) (j_a8 : Nat → Int32) (j_a9 : Nat → Int32) (j_a10 : Nat → Int32) (j_a11 : Nat → Int32) (j_a12 : Nat → Int32) (j_a13 : Nat → Int32) (j_a14 : Nat → Int32) (j_a15 : Nat → Int32) (j_a16 : Nat → Int32) (j_a17 : Nat → Int32), x5_x = nI x5_c → zq_R pl sg m (j_f0_first, j_f0_waiting, j_f0_holder, j_f0_wrong, j_a1, j_a2, j_a3, j_a4, j_a5, j_a6, j_a7, j_a8, j_a9, j_a10, j_a11, j_a12, j_a13, j_a14, j_a15, j_a16, j_a17) → kJ64 x5_c m = true → J64 x5_x j_f0_first j_f0_waiting j_f0_holder j_f0_wrong j_a1 j_a2 j_a3 j_a4 j_a5 j_a6 j_a7 j_a8 j_a9 j_a10 j_a11 j_a12 j_a13 j_a14 j_a15 j_a16 j_a17) {x1 : Int32} {c_x1 : Nat} (h_x1 : x1 = nI c_x1) {x2 : Int32} {c_x2 : Nat} (h_x2 : x2 = nI c_x2) {x4 : Int32} {c_x4 : Nat} (h_x4 : x4 = nI c_x4) {x5 : Int32} {c_x5 : Nat} (h_x5 : x5 = nI c_x5) {x6 : Int32} {c_x6 : Nat} (h_x6 : x6 = nI c_x6) {m : Nat} (hR : zq_R pl sg m (f0_first, f0_waiting, f0_holder, f0_wrong, a1, a2, a3, a4, a5, a6, a7, a8, a9, a10, a11, a12, a13, a14, a15, a16, a17)) (h : ez_compare_121 k kJ64 c_x1 c_x2 c_x4 c_x5 c_x6 m = true) : wX_compare_121 post J64 x1 x2 x4 x5 x6 f0_first f0_waiting f0_holder f0_wrong a1 a2 a3 a4 a5 a6 a7 a8 a9 a10 a11 a12 a13 a14 a15 a16 a17 := by
  unfold wX_compare_121
  unfold ez_compare_121 at h
  exact sz_compare_122 H hk hJ64 h_x1 h_x2 h_x4 h_x5 h_x6 (rfl : (0 : Int32) = nI 0) hR h
noncomputable def ez_compare_93 (k : Nat → Bool) (kJ64 : Nat → Nat → Bool) (c_x1 : Nat) (c_x2 : Nat) (c_x4 : Nat) (c_x5 : Nat) (c_z0 : Nat) (m : Nat) : Bool := zq_bc (zq_bl c_x1 5) (zq_bc (zq_lt (zq_rd m (Nat.add 49 c_x1)) c_x5) (ez_compare_121 k kJ64 c_x1 c_x2 c_x4 c_x5 c_z0 m) (zq_bc (zq_bl c_x2 5) (zq_bc (zq_lt (zq_rd m (Nat.add 49 c_x2)) c_x5) (ez_compare_121 k kJ64 c_x1 c_x2 c_x4 c_x5 c_z0 m) (ez_compare_122 k kJ64 c_x1 c_x2 c_x4 c_x5 c_z0 1 m)) false)) false
theorem sz_compare_93 {pl sg : Nat → Nat → Int32} (H : zq_H pl sg) {post : St2 → Prop} {k : Nat → Bool} (hk : ∀ (u : St2) (m : Nat), zq_R pl sg m u → k m = true → post u) {f0_first : Int32} {f0_waiting : Int32} {f0_holder : Int32} {f0_wrong : Int32} {a1 : Nat → Int32} {a2 : Nat → Int32} {a3 : Nat → Int32} {a4 : Nat → Int32} {a5 : Nat → Int32} {a6 : Nat → Int32} {a7 : Nat → Int32} {a8 : Nat → Int32} {a9 : Nat → Int32} {a10 : Nat → Int32} {a11 : Nat → Int32} {a12 : Nat → Int32} {a13 : Nat → Int32} {a14 : Nat → Int32} {a15 : Nat → Int32} {a16 : Nat → Int32} {a17 : Nat → Int32} {J64 : Int32 → Int32 → Int32 → Int32 → Int32 → (Nat → Int32) → (Nat → Int32) → (Nat → Int32) → (Nat → Int32) → (Nat → Int32) → (Nat → Int32) → (Nat → Int32) → (Nat → Int32) → (Nat → Int32) → (Nat → Int32) → (Nat → Int32) → (Nat → Int32) → (Nat → Int32) → (Nat → Int32) → (Nat → Int32) → (Nat → Int32) → (Nat → Int32) → Prop} {kJ64 : Nat → Nat → Bool} (hJ64 : ∀ (x5_x : Int32) (x5_c : Nat) (m : Nat) (j_f0_first : Int32) (j_f0_waiting : Int32) (j_f0_holder : Int32) (j_f0_wrong : Int32) (j_a1 : Nat → Int32) (j_a2 : Nat → Int32) (j_a3 : Nat → Int32) (j_a4 : Nat → Int32) (j_a5 : Nat → Int32) (j_a6 : Nat → Int32) (j_a7 : Nat → Int32) (j_a8 : Nat → Int32) (j_a9 : Nat → Int32) (j_a10 : Nat → Int32) (j_a11 : Nat → Int32) (j_a12 : Nat → Int32) (j_a13 : Nat → Int32) (j_a14 : Nat → Int32) (j_a15 : Nat → Int32) (j_a16 : Nat → Int32) (j_a17 : Nat → Int32), x5_x = nI x5_c → zq_R pl sg m (j_f0_first, j_f0_waiting, j_f0_holder, j_f0_wrong, j_a1, j_a2, j_a3, j_a4, j_a5, j_a6, j_a7, j_a8, j_a9, j_a10, j_a11, j_a12, j_a13, j_a14, j_a15, j_a16, j_a17) → kJ64 x5_c m = true → J64 x5_x j_f0_first j_f0_waiting j_f0_holder j_f0_wrong j_a1 j_a2 j_a3 j_a4 j_a5 j_a6 j_a7 j_a8 j_a9 j_a10 j_a11 j_a12 j_a13 j_a14 j_a15 j_a16 j_a17) {x1 : Int32} {c_x1 : Nat} (h_x1 : x1 = nI c_x1) {x2 : Int32} {c_x2 : Nat} (h_x2 : x2 = nI c_x2) {x4 : Int32} {c_x4 : Nat} (h_x4 : x4 = nI c_x4) {x5 : Int32} {c_x5 : Nat} (h_x5 : x5 = nI c_x5) {z0 : Int32} {c_z0 : Nat} (h_z0 : z0 = nI c_z0) {m : Nat} (hR : zq_R pl sg m (f0_first, f0_waiting, f0_holder, f0_wrong, a1, a2, a3, a4, a5, a6, a7, a8, a9, a10, a11, a12, a13, a14, a15, a16, a17)) (h : ez_compare_93 k kJ64 c_x1 c_x2 c_x4 c_x5 c_z0 m = true) : wX_compare_93 post J64 x1 x2 x4 x5 z0 f0_first f0_waiting f0_holder f0_wrong a1 a2 a3 a4 a5 a6 a7 a8 a9 a10 a11 a12 a13 a14 a15 a16 a17 := by
  unfold wX_compare_93
  unfold ez_compare_93 at h
  refine zq_vi h_x1 h (fun q1 h => ?_)
  refine zq_br (zq_clt (zq_g11 hR h_x1 q1) h_x5) h (fun h => ?_) (fun h => ?_)
  · exact sz_compare_121 H hk hJ64 h_x1 h_x2 h_x4 h_x5 h_z0 hR h
  · refine zq_vi h_x2 h (fun q2 h => ?_)
    refine zq_br (zq_clt (zq_g11 hR h_x2 q2) h_x5) h (fun h => ?_) (fun h => ?_)
    · exact sz_compare_121 H hk hJ64 h_x1 h_x2 h_x4 h_x5 h_z0 hR h
    · exact sz_compare_122 H hk hJ64 h_x1 h_x2 h_x4 h_x5 h_z0 (rfl : (1 : Int32) = nI 1) hR h
noncomputable def ez_compare_64_b (k : Nat → Bool) (ih : Nat → Nat → Bool) (c_x1 : Nat) (c_x2 : Nat) (c_x4 : Nat) (c_x5 : Nat) (m : Nat) : Bool := zq_bc (zq_lt c_x4 c_x5) (zq_bc (zq_bl c_x1 5) (zq_bc (zq_bl c_x2 5) (zq_bc (zq_eq (zq_rd m (Nat.add 49 c_x1)) (zq_rd m (Nat.add 49 c_x2))) (ez_areSame (fun c3 => zq_bc (zq_eq c3 0) (ez_compare_204 k 0 m) (ez_compare_199 k m)) c_x1 c_x2 m) (ez_compare_199 k m)) false) false) (ez_termAt (fun c4 => ez_termAt (fun c5 => zq_bc (zq_eq c4 c5) (ez_compare_93 k ih c_x1 c_x2 c_x4 c_x5 1 m) (ez_compare_93 k ih c_x1 c_x2 c_x4 c_x5 0 m)) c_x2 c_x5 m) c_x1 c_x5 m)
noncomputable def ez_compare_64 (k : Nat → Bool) (c_x1 : Nat) (c_x2 : Nat) (c_x4 : Nat) (n : Nat) : Nat → Nat → Bool := Nat.rec (motive := fun _ => Nat → Nat → Bool) (fun _ _ => false) (fun _ ih => ez_compare_64_b k ih c_x1 c_x2 c_x4) n
theorem sz_compare_64 {pl sg : Nat → Nat → Int32} (H : zq_H pl sg) {post : St2 → Prop} {k : Nat → Bool} (hk : ∀ (u : St2) (m : Nat), zq_R pl sg m u → k m = true → post u) {x1 : Int32} {c_x1 : Nat} (h_x1 : x1 = nI c_x1) {x2 : Int32} {c_x2 : Nat} (h_x2 : x2 = nI c_x2) {x4 : Int32} {c_x4 : Nat} (h_x4 : x4 = nI c_x4) : ∀ (n : Nat) (x5 : Int32) (c_x5 : Nat) (m : Nat) (f0_first : Int32) (f0_waiting : Int32) (f0_holder : Int32) (f0_wrong : Int32) (a1 : Nat → Int32) (a2 : Nat → Int32) (a3 : Nat → Int32) (a4 : Nat → Int32) (a5 : Nat → Int32) (a6 : Nat → Int32) (a7 : Nat → Int32) (a8 : Nat → Int32) (a9 : Nat → Int32) (a10 : Nat → Int32) (a11 : Nat → Int32) (a12 : Nat → Int32) (a13 : Nat → Int32) (a14 : Nat → Int32) (a15 : Nat → Int32) (a16 : Nat → Int32) (a17 : Nat → Int32), x5 = nI c_x5 → zq_R pl sg m (f0_first, f0_waiting, f0_holder, f0_wrong, a1, a2, a3, a4, a5, a6, a7, a8, a9, a10, a11, a12, a13, a14, a15, a16, a17) → ez_compare_64 k c_x1 c_x2 c_x4 n c_x5 m = true → wX_compare_64 post x1 x2 x4 n x5 f0_first f0_waiting f0_holder f0_wrong a1 a2 a3 a4 a5 a6 a7 a8 a9 a10 a11 a12 a13 a14 a15 a16 a17 := by
  intro n
  induction n with
  | zero =>
    intro x5 c_x5 m f0_first f0_waiting f0_holder f0_wrong a1 a2 a3 a4 a5 a6 a7 a8 a9 a10 a11 a12 a13 a14 a15 a16 a17 h_x5 hR h
    exact zq_ff h
  | succ n ih =>
    intro x5 c_x5 m f0_first f0_waiting f0_holder f0_wrong a1 a2 a3 a4 a5 a6 a7 a8 a9 a10 a11 a12 a13 a14 a15 a16 a17 h_x5 hR h
    have h : ez_compare_64_b k (ez_compare_64 k c_x1 c_x2 c_x4 n) c_x1 c_x2 c_x4 c_x5 m = true := h
    unfold ez_compare_64_b at h
    unfold wX_compare_64
    refine zq_br (zq_clt h_x4 h_x5) h (fun h => ?_) (fun h => ?_)
    · refine zq_vi h_x1 h (fun q1 h => ?_)
      refine zq_vi h_x2 h (fun q2 h => ?_)
      refine zq_br (zq_ceq (zq_g11 hR h_x1 q1) (zq_g11 hR h_x2 q2)) h (fun h => ?_) (fun h => ?_)
      · refine sz_areSame H ?_ h_x1 h_x2 hR h
        intro r_70 c3 hc3 h
        refine zq_br (zq_ceq hc3 (rfl : (0 : Int32) = nI 0)) h (fun h => ?_) (fun h => ?_)
        · exact sz_compare_204 H hk (rfl : (0 : Int32) = nI 0) hR h
        · exact sz_compare_199 H hk hR h
      · exact sz_compare_199 H hk hR h
    · refine sz_termAt H ?_ h_x1 h_x5 hR h
      intro r_72 c4 hc4 h
      refine sz_termAt H ?_ h_x2 h_x5 hR h
      intro r_73 c5 hc5 h
      refine zq_br (zq_ceq hc4 hc5) h (fun h => ?_) (fun h => ?_)
      · exact sz_compare_93 H hk ih h_x1 h_x2 h_x4 h_x5 (rfl : (1 : Int32) = nI 1) hR h
      · exact sz_compare_93 H hk ih h_x1 h_x2 h_x4 h_x5 (rfl : (0 : Int32) = nI 0) hR h
noncomputable def ez_compare_30 (k : Nat → Bool) (c_x1 : Nat) (c_x2 : Nat) (c_z0 : Nat) (m : Nat) : Bool := ez_lastOf (fun c1 => ez_lastOf (fun c2 => zq_bc (zq_le c2 c1) (ez_lastOf (fun c3 => zq_fo (zq_ad c_z0 1) (fun c4 => ez_compare_64 k c_x1 c_x2 c3 300 c4 m)) c_x2 m) (ez_lastOf (fun c5 => zq_fo (zq_ad c_z0 1) (fun c6 => ez_compare_64 k c_x1 c_x2 c5 300 c6 m)) c_x1 m)) c_x2 m) c_x1 m
theorem sz_compare_30 {pl sg : Nat → Nat → Int32} (H : zq_H pl sg) {post : St2 → Prop} {k : Nat → Bool} (hk : ∀ (u : St2) (m : Nat), zq_R pl sg m u → k m = true → post u) {f0_first : Int32} {f0_waiting : Int32} {f0_holder : Int32} {f0_wrong : Int32} {a1 : Nat → Int32} {a2 : Nat → Int32} {a3 : Nat → Int32} {a4 : Nat → Int32} {a5 : Nat → Int32} {a6 : Nat → Int32} {a7 : Nat → Int32} {a8 : Nat → Int32} {a9 : Nat → Int32} {a10 : Nat → Int32} {a11 : Nat → Int32} {a12 : Nat → Int32} {a13 : Nat → Int32} {a14 : Nat → Int32} {a15 : Nat → Int32} {a16 : Nat → Int32} {a17 : Nat → Int32} {x1 : Int32} {c_x1 : Nat} (h_x1 : x1 = nI c_x1) {x2 : Int32} {c_x2 : Nat} (h_x2 : x2 = nI c_x2) {z0 : Int32} {c_z0 : Nat} (h_z0 : z0 = nI c_z0) {m : Nat} (hR : zq_R pl sg m (f0_first, f0_waiting, f0_holder, f0_wrong, a1, a2, a3, a4, a5, a6, a7, a8, a9, a10, a11, a12, a13, a14, a15, a16, a17)) (h : ez_compare_30 k c_x1 c_x2 c_z0 m = true) : wX_compare_30 post x1 x2 z0 f0_first f0_waiting f0_holder f0_wrong a1 a2 a3 a4 a5 a6 a7 a8 a9 a10 a11 a12 a13 a14 a15 a16 a17 := by
  unfold wX_compare_30
  unfold ez_compare_30 at h
  refine sz_lastOf H ?_ h_x1 hR h
  intro r_5 c1 hc1 h
  refine sz_lastOf H ?_ h_x2 hR h
  intro r_6 c2 hc2 h
  refine zq_br (zq_cle hc2 hc1) h (fun h => ?_) (fun h => ?_)
  · refine sz_lastOf H ?_ h_x2 hR h
    intro r_8 c3 hc3 h
    refine zq_le_t h (zq_xad h_z0 (rfl : (1 : Int32) = nI 1)) (fun x5_9 c4 hc4 h => ?_)
    exact ⟨300, sz_compare_64 H hk h_x1 h_x2 hc3 300 _ _ _ _ _ _ _ _ _ _ _ _ _ _ _ _ _ _ _ _ _ _ _ _ hc4 hR h⟩
  · refine sz_lastOf H ?_ h_x1 hR h
    intro r_197 c5 hc5 h
    refine zq_le_t h (zq_xad h_z0 (rfl : (1 : Int32) = nI 1)) (fun x5_198 c6 hc6 h => ?_)
    exact ⟨300, sz_compare_64 H hk h_x1 h_x2 hc5 300 _ _ _ _ _ _ _ _ _ _ _ _ _ _ _ _ _ _ _ _ _ _ _ _ hc6 hR h⟩
noncomputable def ez_compare (k : Nat → Bool) (c_p0 : Nat) (c_p1 : Nat) (m : Nat) : Bool := zq_bc (zq_bl c_p0 5) (zq_bc (zq_bl c_p1 5) (zq_bc (zq_le (zq_rd m (Nat.add 34 c_p0)) (zq_rd m (Nat.add 34 c_p1))) (zq_bc (zq_bl c_p1 5) (zq_fo (zq_rd m (Nat.add 34 c_p1)) (fun c4 => ez_compare_30 k c_p0 c_p1 c4 m)) false) (zq_bc (zq_bl c_p0 5) (zq_fo (zq_rd m (Nat.add 34 c_p0)) (fun c7 => ez_compare_30 k c_p0 c_p1 c7 m)) false)) false) false
theorem sz_compare {pl sg : Nat → Nat → Int32} (H : zq_H pl sg) {post : St2 → Prop} {k : Nat → Bool} (hk : ∀ (u : St2) (m : Nat), zq_R pl sg m u → k m = true → post u) {p0 : Int32} {c_p0 : Nat} (h_p0 : p0 = nI c_p0) {p1 : Int32} {c_p1 : Nat} (h_p1 : p1 = nI c_p1) {u : St2} {m : Nat} (hR : zq_R pl sg m u) (h : ez_compare k c_p0 c_p1 m = true) : wpX_compare post u p0 p1 := by
  obtain ⟨f0_first, f0_waiting, f0_holder, f0_wrong, a1, a2, a3, a4, a5, a6, a7, a8, a9, a10, a11, a12, a13, a14, a15, a16, a17⟩ := u
  unfold wpX_compare
  unfold ez_compare at h
  refine zq_vi h_p0 h (fun q1 h => ?_)
  refine zq_vi h_p1 h (fun q2 h => ?_)
  refine zq_br (zq_cle (zq_g7 hR h_p0 q1) (zq_g7 hR h_p1 q2)) h (fun h => ?_) (fun h => ?_)
  · refine zq_vi h_p1 h (fun q3 h => ?_)
    obtain ⟨c4, ec4, h⟩ := zq_fo_e h
    have hf5 := zq_tr (zq_g7 hR h_p1 q3) ec4
    exact sz_compare_30 H hk h_p0 h_p1 hf5 hR h
  · refine zq_vi h_p0 h (fun q6 h => ?_)
    obtain ⟨c7, ec7, h⟩ := zq_fo_e h
    have hf8 := zq_tr (zq_g7 hR h_p0 q6) ec7
    exact sz_compare_30 H hk h_p0 h_p1 hf8 hR h
noncomputable def ez_faults_164_b (k : Nat → Nat → Bool) (ih : Nat → Nat → Bool) (c_x2 : Nat) (m : Nat) : Bool := zq_bc (zq_le 25 c_x2) (zq_fo (zq_rd m 3) (fun c1 => k c1 m)) (zq_bc (zq_bl c_x2 2147483648) (zq_fo (Nat.div c_x2 5) (fun c4 => zq_fo (Nat.mod c_x2 5) (fun c6 => ez_compare (fun m8 => zq_fo (zq_ad c_x2 1) (fun c9 => ih c9 m8)) c4 c6 m))) false)
noncomputable def ez_faults_164 (k : Nat → Nat → Bool) (n : Nat) : Nat → Nat → Bool := Nat.rec (motive := fun _ => Nat → Nat → Bool) (fun _ _ => false) (fun _ ih => ez_faults_164_b k ih) n
theorem sz_faults_164 {pl sg : Nat → Nat → Int32} (H : zq_H pl sg) {post : Int32 → St2 → Prop} {k : Nat → Nat → Bool} (hk : ∀ (x : Int32) (c : Nat) (u : St2) (m : Nat), x = nI c → zq_R pl sg m u → k c m = true → post x u) : ∀ (n : Nat) (x2 : Int32) (c_x2 : Nat) (m : Nat) (f0_first : Int32) (f0_waiting : Int32) (f0_holder : Int32) (f0_wrong : Int32) (am1591 : Nat → Int32) (am1592 : Nat → Int32) (am1593 : Nat → Int32) (am1594 : Nat → Int32) (am1595 : Nat → Int32) (am1596 : Nat → Int32) (am1597 : Nat → Int32) (am1598 : Nat → Int32) (am1599 : Nat → Int32) (am15910 : Nat → Int32) (am15911 : Nat → Int32) (am15912 : Nat → Int32) (am15913 : Nat → Int32) (am15914 : Nat → Int32) (am15915 : Nat → Int32) (am15916 : Nat → Int32) (am15917 : Nat → Int32), x2 = nI c_x2 → zq_R pl sg m (f0_first, f0_waiting, f0_holder, f0_wrong, am1591, am1592, am1593, am1594, am1595, am1596, am1597, am1598, am1599, am15910, am15911, am15912, am15913, am15914, am15915, am15916, am15917) → ez_faults_164 k n c_x2 m = true → wX_faults_164 post n x2 f0_first f0_waiting f0_holder f0_wrong am1591 am1592 am1593 am1594 am1595 am1596 am1597 am1598 am1599 am15910 am15911 am15912 am15913 am15914 am15915 am15916 am15917 := by
  intro n
  induction n with
  | zero =>
    intro x2 c_x2 m f0_first f0_waiting f0_holder f0_wrong am1591 am1592 am1593 am1594 am1595 am1596 am1597 am1598 am1599 am15910 am15911 am15912 am15913 am15914 am15915 am15916 am15917 h_x2 hR h
    exact zq_ff h
  | succ n ih =>
    intro x2 c_x2 m f0_first f0_waiting f0_holder f0_wrong am1591 am1592 am1593 am1594 am1595 am1596 am1597 am1598 am1599 am15910 am15911 am15912 am15913 am15914 am15915 am15916 am15917 h_x2 hR h
    have h : ez_faults_164_b k (ez_faults_164 k n) c_x2 m = true := h
    unfold ez_faults_164_b at h
    unfold wX_faults_164
    refine zq_br (zq_cle (rfl : (25 : Int32) = nI 25) h_x2) h (fun h => ?_) (fun h => ?_)
    · obtain ⟨c1, ec1, h⟩ := zq_fo_e h
      have hf2 := zq_tr (zq_g_f4 hR) ec1
      exact hk _ _ _ _ hf2 hR h
    · refine ⟨by decide, ?_⟩
      refine ⟨by decide, ?_⟩
      obtain ⟨q3, h⟩ := zq_bc_s h
      obtain ⟨c4, ec4, h⟩ := zq_fo_e h
      have hf5 := zq_tr (zq_xdiv 5 h_x2 q3) ec4
      obtain ⟨c6, ec6, h⟩ := zq_fo_e h
      have hf7 := zq_tr (zq_xrem 5 h_x2 q3) ec6
      refine sz_compare H ?_ hf5 hf7 hR h
      intro u m8 hR h
      obtain ⟨f0_first_63, f0_waiting_64, f0_holder_65, f0_wrong_66, am1771_69, am1772_72, am1773_75, am1774_78, am1775_81, am1776_84, am1777_87, am1778_90, am1779_93, am17710_96, am17711_99, am17712_102, am17713_105, am17714_108, am17715_111, am17716_114, am17717_117⟩ := u
      refine zq_le_t h (zq_xad h_x2 (rfl : (1 : Int32) = nI 1)) (fun x2_118 c9 hc9 h => ?_)
      exact ih _ _ _ _ _ _ _ _ _ _ _ _ _ _ _ _ _ _ _ _ _ _ _ _ hc9 hR h
noncomputable def ez_faults_159 (k : Nat → Nat → Bool) (c_z0 : Nat) (m : Nat) : Bool := ez_expect (fun m1 => ez_faults_164 k 300 0 m1) c_z0 m
theorem sz_faults_159 {pl sg : Nat → Nat → Int32} (H : zq_H pl sg) {post : Int32 → St2 → Prop} {k : Nat → Nat → Bool} (hk : ∀ (x : Int32) (c : Nat) (u : St2) (m : Nat), x = nI c → zq_R pl sg m u → k c m = true → post x u) {f0_first : Int32} {f0_waiting : Int32} {f0_holder : Int32} {f0_wrong : Int32} {a1 : Nat → Int32} {a2 : Nat → Int32} {a3 : Nat → Int32} {a4 : Nat → Int32} {a5 : Nat → Int32} {a6 : Nat → Int32} {a7 : Nat → Int32} {a8 : Nat → Int32} {a9 : Nat → Int32} {a10 : Nat → Int32} {a11 : Nat → Int32} {a12 : Nat → Int32} {a13 : Nat → Int32} {a14 : Nat → Int32} {a15 : Nat → Int32} {a16 : Nat → Int32} {a17 : Nat → Int32} {z0 : Int32} {c_z0 : Nat} (h_z0 : z0 = nI c_z0) {m : Nat} (hR : zq_R pl sg m (f0_first, f0_waiting, f0_holder, f0_wrong, a1, a2, a3, a4, a5, a6, a7, a8, a9, a10, a11, a12, a13, a14, a15, a16, a17)) (h : ez_faults_159 k c_z0 m = true) : wX_faults_159 post z0 f0_first f0_waiting f0_holder f0_wrong a1 a2 a3 a4 a5 a6 a7 a8 a9 a10 a11 a12 a13 a14 a15 a16 a17 := by
  unfold wX_faults_159
  unfold ez_faults_159 at h
  refine sz_expect H ?_ h_z0 hR h
  intro u m1 hR h
  obtain ⟨f0_first_4, f0_waiting_5, f0_holder_6, f0_wrong_7, am1591_10, am1592_13, am1593_16, am1594_19, am1595_22, am1596_25, am1597_28, am1598_31, am1599_34, am15910_37, am15911_40, am15912_43, am15913_46, am15914_49, am15915_52, am15916_55, am15917_58⟩ := u
  exact ⟨300, sz_faults_164 H hk 300 _ _ _ _ _ _ _ _ _ _ _ _ _ _ _ _ _ _ _ _ _ _ _ _ (rfl : (0 : Int32) = nI 0) hR h⟩
noncomputable def ez_faults_158 (k : Nat → Nat → Bool) (m : Nat) : Bool := ez_faults_159 k 0 m
theorem sz_faults_158 {pl sg : Nat → Nat → Int32} (H : zq_H pl sg) {post : Int32 → St2 → Prop} {k : Nat → Nat → Bool} (hk : ∀ (x : Int32) (c : Nat) (u : St2) (m : Nat), x = nI c → zq_R pl sg m u → k c m = true → post x u) {f0_first : Int32} {f0_waiting : Int32} {f0_holder : Int32} {f0_wrong : Int32} {a1 : Nat → Int32} {a2 : Nat → Int32} {a3 : Nat → Int32} {a4 : Nat → Int32} {a5 : Nat → Int32} {a6 : Nat → Int32} {a7 : Nat → Int32} {a8 : Nat → Int32} {a9 : Nat → Int32} {a10 : Nat → Int32} {a11 : Nat → Int32} {a12 : Nat → Int32} {a13 : Nat → Int32} {a14 : Nat → Int32} {a15 : Nat → Int32} {a16 : Nat → Int32} {a17 : Nat → Int32} {m : Nat} (hR : zq_R pl sg m (f0_first, f0_waiting, f0_holder, f0_wrong, a1, a2, a3, a4, a5, a6, a7, a8, a9, a10, a11, a12, a13, a14, a15, a16, a17)) (h : ez_faults_158 k m = true) : wX_faults_158 post f0_first f0_waiting f0_holder f0_wrong a1 a2 a3 a4 a5 a6 a7 a8 a9 a10 a11 a12 a13 a14 a15 a16 a17 := by
  unfold wX_faults_158
  unfold ez_faults_158 at h
  exact sz_faults_159 H hk (rfl : (0 : Int32) = nI 0) hR h
noncomputable def ez_faults_126 (k : Nat → Nat → Bool) (kJ9 : Nat → Nat → Nat → Bool) (kJ79 : Nat → Nat → Bool) (c_x1 : Nat) (c_x2 : Nat) (c_x3 : Nat) (c_z0 : Nat) (m : Nat) : Bool := ez_expect (fun m1 => zq_fo (zq_ad c_x3 1) (fun c2 => kJ79 c2 m1)) c_z0 m
theorem sz_faults_126 {pl sg : Nat → Nat → Int32} (H : zq_H pl sg) {post : Int32 → St2 → Prop} {k : Nat → Nat → Bool} (hk : ∀ (x : Int32) (c : Nat) (u : St2) (m : Nat), x = nI c → zq_R pl sg m u → k c m = true → post x u) {f0_first : Int32} {f0_waiting : Int32} {f0_holder : Int32} {f0_wrong : Int32} {am671 : Nat → Int32} {am672 : Nat → Int32} {am673 : Nat → Int32} {am674 : Nat → Int32} {am675 : Nat → Int32} {am676 : Nat → Int32} {am677 : Nat → Int32} {am678 : Nat → Int32} {am679 : Nat → Int32} {am6710 : Nat → Int32} {am6711 : Nat → Int32} {am6712 : Nat → Int32} {am6713 : Nat → Int32} {am6714 : Nat → Int32} {am6715 : Nat → Int32} {am6716 : Nat → Int32} {am6717 : Nat → Int32} {J9 : Int32 → Int32 → Int32 → Int32 → Int32 → Int32 → (Nat → Int32) → (Nat → Int32) → (Nat → Int32) → (Nat → Int32) → (Nat → Int32) → (Nat → Int32) → (Nat → Int32) → (Nat → Int32) → (Nat → Int32) → (Nat → Int32) → (Nat → Int32) → (Nat → Int32) → (Nat → Int32) → (Nat → Int32) → (Nat → Int32) → (Nat → Int32) → (Nat → Int32) → Prop} {kJ9 : Nat → Nat → Nat → Bool} (hJ9 : ∀ (x1_x : Int32) (x1_c : Nat) (x2_x : Int32) (x2_c : Nat) (m : Nat) (j_f0_first : Int32) (j_f0_waiting : Int32) (j_f0_holder : Int32) (j_f0_wrong : Int32) (j_a1 : Nat → Int32) (j_a2 : Nat → Int32) (j_a3 : Nat → Int32) (j_a4 : Nat → Int32) (j_a5 : Nat → Int32) (j_a6 : Nat → Int32) (j_a7 : Nat → Int32) (j_a8 : Nat → Int32) (j_a9 : Nat → Int32) (j_a10 : Nat → Int32) (j_a11 : Nat → Int32) (j_a12 : Nat → Int32) (j_a13 : Nat → Int32) (j_a14 : Nat → Int32) (j_a15 : Nat → Int32) (j_a16 : Nat → Int32) (j_a17 : Nat → Int32), x1_x = nI x1_c → x2_x = nI x2_c → zq_R pl sg m (j_f0_first, j_f0_waiting, j_f0_holder, j_f0_wrong, j_a1, j_a2, j_a3, j_a4, j_a5, j_a6, j_a7, j_a8, j_a9, j_a10, j_a11, j_a12, j_a13, j_a14, j_a15, j_a16, j_a17) → kJ9 x1_c x2_c m = true → J9 x1_x x2_x j_f0_first j_f0_waiting j_f0_holder j_f0_wrong j_a1 j_a2 j_a3 j_a4 j_a5 j_a6 j_a7 j_a8 j_a9 j_a10 j_a11 j_a12 j_a13 j_a14 j_a15 j_a16 j_a17) {J79 : Int32 → Int32 → Int32 → Int32 → Int32 → (Nat → Int32) → (Nat → Int32) → (Nat → Int32) → (Nat → Int32) → (Nat → Int32) → (Nat → Int32) → (Nat → Int32) → (Nat → Int32) → (Nat → Int32) → (Nat → Int32) → (Nat → Int32) → (Nat → Int32) → (Nat → Int32) → (Nat → Int32) → (Nat → Int32) → (Nat → Int32) → (Nat → Int32) → Prop} {kJ79 : Nat → Nat → Bool} (hJ79 : ∀ (x3_x : Int32) (x3_c : Nat) (m : Nat) (j_f0_first : Int32) (j_f0_waiting : Int32) (j_f0_holder : Int32) (j_f0_wrong : Int32) (j_am671 : Nat → Int32) (j_am672 : Nat → Int32) (j_am673 : Nat → Int32) (j_am674 : Nat → Int32) (j_am675 : Nat → Int32) (j_am676 : Nat → Int32) (j_am677 : Nat → Int32) (j_am678 : Nat → Int32) (j_am679 : Nat → Int32) (j_am6710 : Nat → Int32) (j_am6711 : Nat → Int32) (j_am6712 : Nat → Int32) (j_am6713 : Nat → Int32) (j_am6714 : Nat → Int32) (j_am6715 : Nat → Int32) (j_am6716 : Nat → Int32) (j_am6717 : Nat → Int32), x3_x = nI x3_c → zq_R pl sg m (j_f0_first, j_f0_waiting, j_f0_holder, j_f0_wrong, j_am671, j_am672, j_am673, j_am674, j_am675, j_am676, j_am677, j_am678, j_am679, j_am6710, j_am6711, j_am6712, j_am6713, j_am6714, j_am6715, j_am6716, j_am6717) → kJ79 x3_c m = true → J79 x3_x j_f0_first j_f0_waiting j_f0_holder j_f0_wrong j_am671 j_am672 j_am673 j_am674 j_am675 j_am676 j_am677 j_am678 j_am679 j_am6710 j_am6711 j_am6712 j_am6713 j_am6714 j_am6715 j_am6716 j_am6717) {x1 : Int32} {c_x1 : Nat} (h_x1 : x1 = nI c_x1) {x2 : Int32} {c_x2 : Nat} (h_x2 : x2 = nI c_x2) {x3 : Int32} {c_x3 : Nat} (h_x3 : x3 = nI c_x3) {z0 : Int32} {c_z0 : Nat} (h_z0 : z0 = nI c_z0) {m : Nat} (hR : zq_R pl sg m (f0_first, f0_waiting, f0_holder, f0_wrong, am671, am672, am673, am674, am675, am676, am677, am678, am679, am6710, am6711, am6712, am6713, am6714, am6715, am6716, am6717)) (h : ez_faults_126 k kJ9 kJ79 c_x1 c_x2 c_x3 c_z0 m = true) : wX_faults_126 post J9 J79 x1 x2 x3 z0 f0_first f0_waiting f0_holder f0_wrong am671 am672 am673 am674 am675 am676 am677 am678 am679 am6710 am6711 am6712 am6713 am6714 am6715 am6716 am6717 := by
  unfold wX_faults_126
  unfold ez_faults_126 at h
  refine sz_expect H ?_ h_z0 hR h
  intro u m1 hR h
  obtain ⟨f0_first_191, f0_waiting_192, f0_holder_193, f0_wrong_194, am1261_197, am1262_200, am1263_203, am1264_206, am1265_209, am1266_212, am1267_215, am1268_218, am1269_221, am12610_224, am12611_227, am12612_230, am12613_233, am12614_236, am12615_239, am12616_242, am12617_245⟩ := u
  refine zq_le_t h (zq_xad h_x3 (rfl : (1 : Int32) = nI 1)) (fun x3_246 c2 hc2 h => ?_)
  exact hJ79 _ _ _ _ _ _ _ _ _ _ _ _ _ _ _ _ _ _ _ _ _ _ _ _ hc2 hR h
noncomputable def ez_faults_125 (k : Nat → Nat → Bool) (kJ9 : Nat → Nat → Nat → Bool) (kJ79 : Nat → Nat → Bool) (c_x1 : Nat) (c_x2 : Nat) (c_x3 : Nat) (m : Nat) : Bool := ez_faults_126 k kJ9 kJ79 c_x1 c_x2 c_x3 0 m
theorem sz_faults_125 {pl sg : Nat → Nat → Int32} (H : zq_H pl sg) {post : Int32 → St2 → Prop} {k : Nat → Nat → Bool} (hk : ∀ (x : Int32) (c : Nat) (u : St2) (m : Nat), x = nI c → zq_R pl sg m u → k c m = true → post x u) {f0_first : Int32} {f0_waiting : Int32} {f0_holder : Int32} {f0_wrong : Int32} {am671 : Nat → Int32} {am672 : Nat → Int32} {am673 : Nat → Int32} {am674 : Nat → Int32} {am675 : Nat → Int32} {am676 : Nat → Int32} {am677 : Nat → Int32} {am678 : Nat → Int32} {am679 : Nat → Int32} {am6710 : Nat → Int32} {am6711 : Nat → Int32} {am6712 : Nat → Int32} {am6713 : Nat → Int32} {am6714 : Nat → Int32} {am6715 : Nat → Int32} {am6716 : Nat → Int32} {am6717 : Nat → Int32} {J9 : Int32 → Int32 → Int32 → Int32 → Int32 → Int32 → (Nat → Int32) → (Nat → Int32) → (Nat → Int32) → (Nat → Int32) → (Nat → Int32) → (Nat → Int32) → (Nat → Int32) → (Nat → Int32) → (Nat → Int32) → (Nat → Int32) → (Nat → Int32) → (Nat → Int32) → (Nat → Int32) → (Nat → Int32) → (Nat → Int32) → (Nat → Int32) → (Nat → Int32) → Prop} {kJ9 : Nat → Nat → Nat → Bool} (hJ9 : ∀ (x1_x : Int32) (x1_c : Nat) (x2_x : Int32) (x2_c : Nat) (m : Nat) (j_f0_first : Int32) (j_f0_waiting : Int32) (j_f0_holder : Int32) (j_f0_wrong : Int32) (j_a1 : Nat → Int32) (j_a2 : Nat → Int32) (j_a3 : Nat → Int32) (j_a4 : Nat → Int32) (j_a5 : Nat → Int32) (j_a6 : Nat → Int32) (j_a7 : Nat → Int32) (j_a8 : Nat → Int32) (j_a9 : Nat → Int32) (j_a10 : Nat → Int32) (j_a11 : Nat → Int32) (j_a12 : Nat → Int32) (j_a13 : Nat → Int32) (j_a14 : Nat → Int32) (j_a15 : Nat → Int32) (j_a16 : Nat → Int32) (j_a17 : Nat → Int32), x1_x = nI x1_c → x2_x = nI x2_c → zq_R pl sg m (j_f0_first, j_f0_waiting, j_f0_holder, j_f0_wrong, j_a1, j_a2, j_a3, j_a4, j_a5, j_a6, j_a7, j_a8, j_a9, j_a10, j_a11, j_a12, j_a13, j_a14, j_a15, j_a16, j_a17) → kJ9 x1_c x2_c m = true → J9 x1_x x2_x j_f0_first j_f0_waiting j_f0_holder j_f0_wrong j_a1 j_a2 j_a3 j_a4 j_a5 j_a6 j_a7 j_a8 j_a9 j_a10 j_a11 j_a12 j_a13 j_a14 j_a15 j_a16 j_a17) {J79 : Int32 → Int32 → Int32 → Int32 → Int32 → (Nat → Int32) → (Nat → Int32) → (Nat → Int32) → (Nat → Int32) → (Nat → Int32) → (Nat → Int32) → (Nat → Int32) → (Nat → Int32) → (Nat → Int32) → (Nat → Int32) → (Nat → Int32) → (Nat → Int32) → (Nat → Int32) → (Nat → Int32) → (Nat → Int32) → (Nat → Int32) → (Nat → Int32) → Prop} {kJ79 : Nat → Nat → Bool} (hJ79 : ∀ (x3_x : Int32) (x3_c : Nat) (m : Nat) (j_f0_first : Int32) (j_f0_waiting : Int32) (j_f0_holder : Int32) (j_f0_wrong : Int32) (j_am671 : Nat → Int32) (j_am672 : Nat → Int32) (j_am673 : Nat → Int32) (j_am674 : Nat → Int32) (j_am675 : Nat → Int32) (j_am676 : Nat → Int32) (j_am677 : Nat → Int32) (j_am678 : Nat → Int32) (j_am679 : Nat → Int32) (j_am6710 : Nat → Int32) (j_am6711 : Nat → Int32) (j_am6712 : Nat → Int32) (j_am6713 : Nat → Int32) (j_am6714 : Nat → Int32) (j_am6715 : Nat → Int32) (j_am6716 : Nat → Int32) (j_am6717 : Nat → Int32), x3_x = nI x3_c → zq_R pl sg m (j_f0_first, j_f0_waiting, j_f0_holder, j_f0_wrong, j_am671, j_am672, j_am673, j_am674, j_am675, j_am676, j_am677, j_am678, j_am679, j_am6710, j_am6711, j_am6712, j_am6713, j_am6714, j_am6715, j_am6716, j_am6717) → kJ79 x3_c m = true → J79 x3_x j_f0_first j_f0_waiting j_f0_holder j_f0_wrong j_am671 j_am672 j_am673 j_am674 j_am675 j_am676 j_am677 j_am678 j_am679 j_am6710 j_am6711 j_am6712 j_am6713 j_am6714 j_am6715 j_am6716 j_am6717) {x1 : Int32} {c_x1 : Nat} (h_x1 : x1 = nI c_x1) {x2 : Int32} {c_x2 : Nat} (h_x2 : x2 = nI c_x2) {x3 : Int32} {c_x3 : Nat} (h_x3 : x3 = nI c_x3) {m : Nat} (hR : zq_R pl sg m (f0_first, f0_waiting, f0_holder, f0_wrong, am671, am672, am673, am674, am675, am676, am677, am678, am679, am6710, am6711, am6712, am6713, am6714, am6715, am6716, am6717)) (h : ez_faults_125 k kJ9 kJ79 c_x1 c_x2 c_x3 m = true) : wX_faults_125 post J9 J79 x1 x2 x3 f0_first f0_waiting f0_holder f0_wrong am671 am672 am673 am674 am675 am676 am677 am678 am679 am6710 am6711 am6712 am6713 am6714 am6715 am6716 am6717 := by
  unfold wX_faults_125
  unfold ez_faults_125 at h
  exact sz_faults_126 H hk hJ9 hJ79 h_x1 h_x2 h_x3 (rfl : (0 : Int32) = nI 0) hR h
noncomputable def ez_faults_79_b (k : Nat → Nat → Bool) (kJ9 : Nat → Nat → Nat → Bool) (ih : Nat → Nat → Bool) (c_x1 : Nat) (c_x2 : Nat) (c_x3 : Nat) (m : Nat) : Bool := ez_lastOf (fun c1 => zq_bc (zq_lt c1 c_x3) (zq_fo (zq_ad c_x2 1) (fun c2 => kJ9 c_x1 c2 m)) (ez_termAt (fun c3 => zq_fo (zq_sb c_x3 1) (fun c4 => ez_termAt (fun c6 => zq_bc (zq_lt c3 c6) (ez_faults_125 k kJ9 ih c_x1 c_x2 c_x3 m) (ez_termAt (fun c7 => zq_bc (zq_bl c_x2 5) (zq_bc (zq_lt (zq_rd m (Nat.add 19 c_x2)) c7) (ez_faults_125 k kJ9 ih c_x1 c_x2 c_x3 m) (ez_faults_126 k kJ9 ih c_x1 c_x2 c_x3 1 m)) false) c_x2 c_x3 m)) c_x2 c4 m)) c_x2 c_x3 m)) c_x2 m
noncomputable def ez_faults_79 (k : Nat → Nat → Bool) (kJ9 : Nat → Nat → Nat → Bool) (c_x1 : Nat) (c_x2 : Nat) (n : Nat) : Nat → Nat → Bool := Nat.rec (motive := fun _ => Nat → Nat → Bool) (fun _ _ => false) (fun _ ih => ez_faults_79_b k kJ9 ih c_x1 c_x2) n
theorem sz_faults_79 {pl sg : Nat → Nat → Int32} (H : zq_H pl sg) {post : Int32 → St2 → Prop} {k : Nat → Nat → Bool} (hk : ∀ (x : Int32) (c : Nat) (u : St2) (m : Nat), x = nI c → zq_R pl sg m u → k c m = true → post x u) {J9 : Int32 → Int32 → Int32 → Int32 → Int32 → Int32 → (Nat → Int32) → (Nat → Int32) → (Nat → Int32) → (Nat → Int32) → (Nat → Int32) → (Nat → Int32) → (Nat → Int32) → (Nat → Int32) → (Nat → Int32) → (Nat → Int32) → (Nat → Int32) → (Nat → Int32) → (Nat → Int32) → (Nat → Int32) → (Nat → Int32) → (Nat → Int32) → (Nat → Int32) → Prop} {kJ9 : Nat → Nat → Nat → Bool} (hJ9 : ∀ (x1_x : Int32) (x1_c : Nat) (x2_x : Int32) (x2_c : Nat) (m : Nat) (j_f0_first : Int32) (j_f0_waiting : Int32) (j_f0_holder : Int32) (j_f0_wrong : Int32) (j_a1 : Nat → Int32) (j_a2 : Nat → Int32) (j_a3 : Nat → Int32) (j_a4 : Nat → Int32) (j_a5 : Nat → Int32) (j_a6 : Nat → Int32) (j_a7 : Nat → Int32) (j_a8 : Nat → Int32) (j_a9 : Nat → Int32) (j_a10 : Nat → Int32) (j_a11 : Nat → Int32) (j_a12 : Nat → Int32) (j_a13 : Nat → Int32) (j_a14 : Nat → Int32) (j_a15 : Nat → Int32) (j_a16 : Nat → Int32) (j_a17 : Nat → Int32), x1_x = nI x1_c → x2_x = nI x2_c → zq_R pl sg m (j_f0_first, j_f0_waiting, j_f0_holder, j_f0_wrong, j_a1, j_a2, j_a3, j_a4, j_a5, j_a6, j_a7, j_a8, j_a9, j_a10, j_a11, j_a12, j_a13, j_a14, j_a15, j_a16, j_a17) → kJ9 x1_c x2_c m = true → J9 x1_x x2_x j_f0_first j_f0_waiting j_f0_holder j_f0_wrong j_a1 j_a2 j_a3 j_a4 j_a5 j_a6 j_a7 j_a8 j_a9 j_a10 j_a11 j_a12 j_a13 j_a14 j_a15 j_a16 j_a17) {x1 : Int32} {c_x1 : Nat} (h_x1 : x1 = nI c_x1) {x2 : Int32} {c_x2 : Nat} (h_x2 : x2 = nI c_x2) : ∀ (n : Nat) (x3 : Int32) (c_x3 : Nat) (m : Nat) (f0_first : Int32) (f0_waiting : Int32) (f0_holder : Int32) (f0_wrong : Int32) (am671 : Nat → Int32) (am672 : Nat → Int32) (am673 : Nat → Int32) (am674 : Nat → Int32) (am675 : Nat → Int32) (am676 : Nat → Int32) (am677 : Nat → Int32) (am678 : Nat → Int32) (am679 : Nat → Int32) (am6710 : Nat → Int32) (am6711 : Nat → Int32) (am6712 : Nat → Int32) (am6713 : Nat → Int32) (am6714 : Nat → Int32) (am6715 : Nat → Int32) (am6716 : Nat → Int32) (am6717 : Nat → Int32), x3 = nI c_x3 → zq_R pl sg m (f0_first, f0_waiting, f0_holder, f0_wrong, am671, am672, am673, am674, am675, am676, am677, am678, am679, am6710, am6711, am6712, am6713, am6714, am6715, am6716, am6717) → ez_faults_79 k kJ9 c_x1 c_x2 n c_x3 m = true → wX_faults_79 post J9 x1 x2 n x3 f0_first f0_waiting f0_holder f0_wrong am671 am672 am673 am674 am675 am676 am677 am678 am679 am6710 am6711 am6712 am6713 am6714 am6715 am6716 am6717 := by
  intro n
  induction n with
  | zero =>
    intro x3 c_x3 m f0_first f0_waiting f0_holder f0_wrong am671 am672 am673 am674 am675 am676 am677 am678 am679 am6710 am6711 am6712 am6713 am6714 am6715 am6716 am6717 h_x3 hR h
    exact zq_ff h
  | succ n ih =>
    intro x3 c_x3 m f0_first f0_waiting f0_holder f0_wrong am671 am672 am673 am674 am675 am676 am677 am678 am679 am6710 am6711 am6712 am6713 am6714 am6715 am6716 am6717 h_x3 hR h
    have h : ez_faults_79_b k kJ9 (ez_faults_79 k kJ9 c_x1 c_x2 n) c_x1 c_x2 c_x3 m = true := h
    unfold ez_faults_79_b at h
    unfold wX_faults_79
    refine sz_lastOf H ?_ h_x2 hR h
    intro r_184 c1 hc1 h
    refine zq_br (zq_clt hc1 h_x3) h (fun h => ?_) (fun h => ?_)
    · refine zq_le_t h (zq_xad h_x2 (rfl : (1 : Int32) = nI 1)) (fun x2_186 c2 hc2 h => ?_)
      exact hJ9 _ _ _ _ _ _ _ _ _ _ _ _ _ _ _ _ _ _ _ _ _ _ _ _ _ _ h_x1 hc2 hR h
    · refine sz_termAt H ?_ h_x2 h_x3 hR h
      intro r_187 c3 hc3 h
      obtain ⟨c4, ec4, h⟩ := zq_fo_e h
      have hf5 := zq_tr (zq_xsb h_x3 (rfl : (1 : Int32) = nI 1)) ec4
      refine sz_termAt H ?_ h_x2 hf5 hR h
      intro r_188 c6 hc6 h
      refine zq_br (zq_clt hc3 hc6) h (fun h => ?_) (fun h => ?_)
      · exact sz_faults_125 H hk hJ9 ih h_x1 h_x2 h_x3 hR h
      · refine sz_termAt H ?_ h_x2 h_x3 hR h
        intro r_247 c7 hc7 h
        refine zq_vi h_x2 h (fun q8 h => ?_)
        refine zq_br (zq_clt (zq_g4 hR h_x2 q8) hc7) h (fun h => ?_) (fun h => ?_)
        · exact sz_faults_125 H hk hJ9 ih h_x1 h_x2 h_x3 hR h
        · exact sz_faults_126 H hk hJ9 ih h_x1 h_x2 h_x3 (rfl : (1 : Int32) = nI 1) hR h
noncomputable def ez_faults_67 (k : Nat → Nat → Bool) (kJ9 : Nat → Nat → Nat → Bool) (c_x1 : Nat) (c_x2 : Nat) (c_z0 : Nat) (m : Nat) : Bool := ez_expect (fun m1 => zq_bc (zq_bl c_x2 5) (zq_fo (zq_ad (zq_rd m1 (Nat.add 34 c_x2)) 1) (fun c3 => ez_faults_79 k kJ9 c_x1 c_x2 300 c3 m1)) false) c_z0 m
theorem sz_faults_67 {pl sg : Nat → Nat → Int32} (H : zq_H pl sg) {post : Int32 → St2 → Prop} {k : Nat → Nat → Bool} (hk : ∀ (x : Int32) (c : Nat) (u : St2) (m : Nat), x = nI c → zq_R pl sg m u → k c m = true → post x u) {f0_first : Int32} {f0_waiting : Int32} {f0_holder : Int32} {f0_wrong : Int32} {a1 : Nat → Int32} {a2 : Nat → Int32} {a3 : Nat → Int32} {a4 : Nat → Int32} {a5 : Nat → Int32} {a6 : Nat → Int32} {a7 : Nat → Int32} {a8 : Nat → Int32} {a9 : Nat → Int32} {a10 : Nat → Int32} {a11 : Nat → Int32} {a12 : Nat → Int32} {a13 : Nat → Int32} {a14 : Nat → Int32} {a15 : Nat → Int32} {a16 : Nat → Int32} {a17 : Nat → Int32} {J9 : Int32 → Int32 → Int32 → Int32 → Int32 → Int32 → (Nat → Int32) → (Nat → Int32) → (Nat → Int32) → (Nat → Int32) → (Nat → Int32) → (Nat → Int32) → (Nat → Int32) → (Nat → Int32) → (Nat → Int32) → (Nat → Int32) → (Nat → Int32) → (Nat → Int32) → (Nat → Int32) → (Nat → Int32) → (Nat → Int32) → (Nat → Int32) → (Nat → Int32) → Prop} {kJ9 : Nat → Nat → Nat → Bool} (hJ9 : ∀ (x1_x : Int32) (x1_c : Nat) (x2_x : Int32) (x2_c : Nat) (m : Nat) (j_f0_first : Int32) (j_f0_waiting : Int32) (j_f0_holder : Int32) (j_f0_wrong : Int32) (j_a1 : Nat → Int32) (j_a2 : Nat → Int32) (j_a3 : Nat → Int32) (j_a4 : Nat → Int32) (j_a5 : Nat → Int32) (j_a6 : Nat → Int32) (j_a7 : Nat → Int32) (j_a8 : Nat → Int32) (j_a9 : Nat → Int32) (j_a10 : Nat → Int32) (j_a11 : Nat → Int32) (j_a12 : Nat → Int32) (j_a13 : Nat → Int32) (j_a14 : Nat → Int32) (j_a15 : Nat → Int32) (j_a16 : Nat → Int32) (j_a17 : Nat → Int32), x1_x = nI x1_c → x2_x = nI x2_c → zq_R pl sg m (j_f0_first, j_f0_waiting, j_f0_holder, j_f0_wrong, j_a1, j_a2, j_a3, j_a4, j_a5, j_a6, j_a7, j_a8, j_a9, j_a10, j_a11, j_a12, j_a13, j_a14, j_a15, j_a16, j_a17) → kJ9 x1_c x2_c m = true → J9 x1_x x2_x j_f0_first j_f0_waiting j_f0_holder j_f0_wrong j_a1 j_a2 j_a3 j_a4 j_a5 j_a6 j_a7 j_a8 j_a9 j_a10 j_a11 j_a12 j_a13 j_a14 j_a15 j_a16 j_a17) {x1 : Int32} {c_x1 : Nat} (h_x1 : x1 = nI c_x1) {x2 : Int32} {c_x2 : Nat} (h_x2 : x2 = nI c_x2) {z0 : Int32} {c_z0 : Nat} (h_z0 : z0 = nI c_z0) {m : Nat} (hR : zq_R pl sg m (f0_first, f0_waiting, f0_holder, f0_wrong, a1, a2, a3, a4, a5, a6, a7, a8, a9, a10, a11, a12, a13, a14, a15, a16, a17)) (h : ez_faults_67 k kJ9 c_x1 c_x2 c_z0 m = true) : wX_faults_67 post J9 x1 x2 z0 f0_first f0_waiting f0_holder f0_wrong a1 a2 a3 a4 a5 a6 a7 a8 a9 a10 a11 a12 a13 a14 a15 a16 a17 := by
  unfold wX_faults_67
  unfold ez_faults_67 at h
  refine sz_expect H ?_ h_z0 hR h
  intro u m1 hR h
  obtain ⟨f0_first_127, f0_waiting_128, f0_holder_129, f0_wrong_130, am671_133, am672_136, am673_139, am674_142, am675_145, am676_148, am677_151, am678_154, am679_157, am6710_160, am6711_163, am6712_166, am6713_169, am6714_172, am6715_175, am6716_178, am6717_181⟩ := u
  refine zq_vi h_x2 h (fun q2 h => ?_)
  refine zq_le_t h (zq_xad (zq_g7 hR h_x2 q2) (rfl : (1 : Int32) = nI 1)) (fun x3_183 c3 hc3 h => ?_)
  exact ⟨300, sz_faults_79 H hk hJ9 h_x1 h_x2 300 _ _ _ _ _ _ _ _ _ _ _ _ _ _ _ _ _ _ _ _ _ _ _ _ hc3 hR h⟩
noncomputable def ez_faults_66 (k : Nat → Nat → Bool) (kJ9 : Nat → Nat → Nat → Bool) (c_x1 : Nat) (c_x2 : Nat) (m : Nat) : Bool := ez_faults_67 k kJ9 c_x1 c_x2 0 m
theorem sz_faults_66 {pl sg : Nat → Nat → Int32} (H : zq_H pl sg) {post : Int32 → St2 → Prop} {k : Nat → Nat → Bool} (hk : ∀ (x : Int32) (c : Nat) (u : St2) (m : Nat), x = nI c → zq_R pl sg m u → k c m = true → post x u) {f0_first : Int32} {f0_waiting : Int32} {f0_holder : Int32} {f0_wrong : Int32} {a1 : Nat → Int32} {a2 : Nat → Int32} {a3 : Nat → Int32} {a4 : Nat → Int32} {a5 : Nat → Int32} {a6 : Nat → Int32} {a7 : Nat → Int32} {a8 : Nat → Int32} {a9 : Nat → Int32} {a10 : Nat → Int32} {a11 : Nat → Int32} {a12 : Nat → Int32} {a13 : Nat → Int32} {a14 : Nat → Int32} {a15 : Nat → Int32} {a16 : Nat → Int32} {a17 : Nat → Int32} {J9 : Int32 → Int32 → Int32 → Int32 → Int32 → Int32 → (Nat → Int32) → (Nat → Int32) → (Nat → Int32) → (Nat → Int32) → (Nat → Int32) → (Nat → Int32) → (Nat → Int32) → (Nat → Int32) → (Nat → Int32) → (Nat → Int32) → (Nat → Int32) → (Nat → Int32) → (Nat → Int32) → (Nat → Int32) → (Nat → Int32) → (Nat → Int32) → (Nat → Int32) → Prop} {kJ9 : Nat → Nat → Nat → Bool} (hJ9 : ∀ (x1_x : Int32) (x1_c : Nat) (x2_x : Int32) (x2_c : Nat) (m : Nat) (j_f0_first : Int32) (j_f0_waiting : Int32) (j_f0_holder : Int32) (j_f0_wrong : Int32) (j_a1 : Nat → Int32) (j_a2 : Nat → Int32) (j_a3 : Nat → Int32) (j_a4 : Nat → Int32) (j_a5 : Nat → Int32) (j_a6 : Nat → Int32) (j_a7 : Nat → Int32) (j_a8 : Nat → Int32) (j_a9 : Nat → Int32) (j_a10 : Nat → Int32) (j_a11 : Nat → Int32) (j_a12 : Nat → Int32) (j_a13 : Nat → Int32) (j_a14 : Nat → Int32) (j_a15 : Nat → Int32) (j_a16 : Nat → Int32) (j_a17 : Nat → Int32), x1_x = nI x1_c → x2_x = nI x2_c → zq_R pl sg m (j_f0_first, j_f0_waiting, j_f0_holder, j_f0_wrong, j_a1, j_a2, j_a3, j_a4, j_a5, j_a6, j_a7, j_a8, j_a9, j_a10, j_a11, j_a12, j_a13, j_a14, j_a15, j_a16, j_a17) → kJ9 x1_c x2_c m = true → J9 x1_x x2_x j_f0_first j_f0_waiting j_f0_holder j_f0_wrong j_a1 j_a2 j_a3 j_a4 j_a5 j_a6 j_a7 j_a8 j_a9 j_a10 j_a11 j_a12 j_a13 j_a14 j_a15 j_a16 j_a17) {x1 : Int32} {c_x1 : Nat} (h_x1 : x1 = nI c_x1) {x2 : Int32} {c_x2 : Nat} (h_x2 : x2 = nI c_x2) {m : Nat} (hR : zq_R pl sg m (f0_first, f0_waiting, f0_holder, f0_wrong, a1, a2, a3, a4, a5, a6, a7, a8, a9, a10, a11, a12, a13, a14, a15, a16, a17)) (h : ez_faults_66 k kJ9 c_x1 c_x2 m = true) : wX_faults_66 post J9 x1 x2 f0_first f0_waiting f0_holder f0_wrong a1 a2 a3 a4 a5 a6 a7 a8 a9 a10 a11 a12 a13 a14 a15 a16 a17 := by
  unfold wX_faults_66
  unfold ez_faults_66 at h
  exact sz_faults_67 H hk hJ9 h_x1 h_x2 (rfl : (0 : Int32) = nI 0) hR h
noncomputable def ez_faults_30 (k : Nat → Nat → Bool) (kJ9 : Nat → Nat → Nat → Bool) (c_x2 : Nat) (c_z0 : Nat) (c_z1 : Nat) (m : Nat) : Bool := zq_fo (zq_ad c_z1 c_z0) (fun c1 => zq_bc (zq_bl c_x2 5) (zq_bc (zq_bl c_x2 5) (zq_bc (zq_lt (zq_rd m (Nat.add 49 c_x2)) (zq_rd m (Nat.add 34 c_x2))) (ez_faults_66 k kJ9 c1 c_x2 m) (zq_bc (zq_bl c_x2 5) (ez_lastOf (fun c5 => zq_bc (zq_lt c5 (zq_rd m (Nat.add 49 c_x2))) (ez_faults_66 k kJ9 c1 c_x2 m) (ez_faults_67 k kJ9 c1 c_x2 1 m)) c_x2 m) false)) false) false)
theorem sz_faults_30 {pl sg : Nat → Nat → Int32} (H : zq_H pl sg) {post : Int32 → St2 → Prop} {k : Nat → Nat → Bool} (hk : ∀ (x : Int32) (c : Nat) (u : St2) (m : Nat), x = nI c → zq_R pl sg m u → k c m = true → post x u) {f0_first : Int32} {f0_waiting : Int32} {f0_holder : Int32} {f0_wrong : Int32} {a1 : Nat → Int32} {a2 : Nat → Int32} {a3 : Nat → Int32} {a4 : Nat → Int32} {a5 : Nat → Int32} {a6 : Nat → Int32} {a7 : Nat → Int32} {a8 : Nat → Int32} {a9 : Nat → Int32} {a10 : Nat → Int32} {a11 : Nat → Int32} {a12 : Nat → Int32} {a13 : Nat → Int32} {a14 : Nat → Int32} {a15 : Nat → Int32} {a16 : Nat → Int32} {a17 : Nat → Int32} {J9 : Int32 → Int32 → Int32 → Int32 → Int32 → Int32 → (Nat → Int32) → (Nat → Int32) → (Nat → Int32) → (Nat → Int32) → (Nat → Int32) → (Nat → Int32) → (Nat → Int32) → (Nat → Int32) → (Nat → Int32) → (Nat → Int32) → (Nat → Int32) → (Nat → Int32) → (Nat → Int32) → (Nat → Int32) → (Nat → Int32) → (Nat → Int32) → (Nat → Int32) → Prop} {kJ9 : Nat → Nat → Nat → Bool} (hJ9 : ∀ (x1_x : Int32) (x1_c : Nat) (x2_x : Int32) (x2_c : Nat) (m : Nat) (j_f0_first : Int32) (j_f0_waiting : Int32) (j_f0_holder : Int32) (j_f0_wrong : Int32) (j_a1 : Nat → Int32) (j_a2 : Nat → Int32) (j_a3 : Nat → Int32) (j_a4 : Nat → Int32) (j_a5 : Nat → Int32) (j_a6 : Nat → Int32) (j_a7 : Nat → Int32) (j_a8 : Nat → Int32) (j_a9 : Nat → Int32) (j_a10 : Nat → Int32) (j_a11 : Nat → Int32) (j_a12 : Nat → Int32) (j_a13 : Nat → Int32) (j_a14 : Nat → Int32) (j_a15 : Nat → Int32) (j_a16 : Nat → Int32) (j_a17 : Nat → Int32), x1_x = nI x1_c → x2_x = nI x2_c → zq_R pl sg m (j_f0_first, j_f0_waiting, j_f0_holder, j_f0_wrong, j_a1, j_a2, j_a3, j_a4, j_a5, j_a6, j_a7, j_a8, j_a9, j_a10, j_a11, j_a12, j_a13, j_a14, j_a15, j_a16, j_a17) → kJ9 x1_c x2_c m = true → J9 x1_x x2_x j_f0_first j_f0_waiting j_f0_holder j_f0_wrong j_a1 j_a2 j_a3 j_a4 j_a5 j_a6 j_a7 j_a8 j_a9 j_a10 j_a11 j_a12 j_a13 j_a14 j_a15 j_a16 j_a17) {x2 : Int32} {c_x2 : Nat} (h_x2 : x2 = nI c_x2) {z0 : Int32} {c_z0 : Nat} (h_z0 : z0 = nI c_z0) {z1 : Int32} {c_z1 : Nat} (h_z1 : z1 = nI c_z1) {m : Nat} (hR : zq_R pl sg m (f0_first, f0_waiting, f0_holder, f0_wrong, a1, a2, a3, a4, a5, a6, a7, a8, a9, a10, a11, a12, a13, a14, a15, a16, a17)) (h : ez_faults_30 k kJ9 c_x2 c_z0 c_z1 m = true) : wX_faults_30 post J9 x2 z0 z1 f0_first f0_waiting f0_holder f0_wrong a1 a2 a3 a4 a5 a6 a7 a8 a9 a10 a11 a12 a13 a14 a15 a16 a17 := by
  unfold wX_faults_30
  unfold ez_faults_30 at h
  refine zq_le_t h (zq_xad h_z1 h_z0) (fun x1_122 c1 hc1 h => ?_)
  refine zq_vi h_x2 h (fun q2 h => ?_)
  refine zq_vi h_x2 h (fun q3 h => ?_)
  refine zq_br (zq_clt (zq_g11 hR h_x2 q3) (zq_g7 hR h_x2 q3)) h (fun h => ?_) (fun h => ?_)
  · exact sz_faults_66 H hk hJ9 hc1 h_x2 hR h
  · refine zq_vi h_x2 h (fun q4 h => ?_)
    refine sz_lastOf H ?_ h_x2 hR h
    intro r_251 c5 hc5 h
    refine zq_br (zq_clt hc5 (zq_g11 hR h_x2 q4)) h (fun h => ?_) (fun h => ?_)
    · exact sz_faults_66 H hk hJ9 hc1 h_x2 hR h
    · exact sz_faults_67 H hk hJ9 hc1 h_x2 (rfl : (1 : Int32) = nI 1) hR h
noncomputable def ez_faults_9_b (k : Nat → Nat → Bool) (ih : Nat → Nat → Nat → Bool) (c_x1 : Nat) (c_x2 : Nat) (m : Nat) : Bool := zq_bc (zq_le 5 c_x2) (zq_bc (zq_le 2 c_x1) (ez_faults_158 k m) (zq_bc (zq_eq (zq_rd m 1) 0) (ez_faults_159 k 1 m) (ez_faults_158 k m))) (zq_bc (zq_bl c_x2 5) (zq_bc (zq_eq (zq_rd m (Nat.add 14 c_x2)) 1) (ez_faults_30 k ih c_x2 1 c_x1 m) (ez_faults_30 k ih c_x2 0 c_x1 m)) false)
noncomputable def ez_faults_9 (k : Nat → Nat → Bool) (n : Nat) : Nat → Nat → Nat → Bool := Nat.rec (motive := fun _ => Nat → Nat → Nat → Bool) (fun _ _ _ => false) (fun _ ih => ez_faults_9_b k ih) n
theorem sz_faults_9 {pl sg : Nat → Nat → Int32} (H : zq_H pl sg) {post : Int32 → St2 → Prop} {k : Nat → Nat → Bool} (hk : ∀ (x : Int32) (c : Nat) (u : St2) (m : Nat), x = nI c → zq_R pl sg m u → k c m = true → post x u) : ∀ (n : Nat) (x1 : Int32) (c_x1 : Nat) (x2 : Int32) (c_x2 : Nat) (m : Nat) (f0_first : Int32) (f0_waiting : Int32) (f0_holder : Int32) (f0_wrong : Int32) (a1 : Nat → Int32) (a2 : Nat → Int32) (a3 : Nat → Int32) (a4 : Nat → Int32) (a5 : Nat → Int32) (a6 : Nat → Int32) (a7 : Nat → Int32) (a8 : Nat → Int32) (a9 : Nat → Int32) (a10 : Nat → Int32) (a11 : Nat → Int32) (a12 : Nat → Int32) (a13 : Nat → Int32) (a14 : Nat → Int32) (a15 : Nat → Int32) (a16 : Nat → Int32) (a17 : Nat → Int32), x1 = nI c_x1 → x2 = nI c_x2 → zq_R pl sg m (f0_first, f0_waiting, f0_holder, f0_wrong, a1, a2, a3, a4, a5, a6, a7, a8, a9, a10, a11, a12, a13, a14, a15, a16, a17) → ez_faults_9 k n c_x1 c_x2 m = true → wX_faults_9 post n x1 x2 f0_first f0_waiting f0_holder f0_wrong a1 a2 a3 a4 a5 a6 a7 a8 a9 a10 a11 a12 a13 a14 a15 a16 a17 := by
  intro n
  induction n with
  | zero =>
    intro x1 c_x1 x2 c_x2 m f0_first f0_waiting f0_holder f0_wrong a1 a2 a3 a4 a5 a6 a7 a8 a9 a10 a11 a12 a13 a14 a15 a16 a17 h_x1 h_x2 hR h
    exact zq_ff h
  | succ n ih =>
    intro x1 c_x1 x2 c_x2 m f0_first f0_waiting f0_holder f0_wrong a1 a2 a3 a4 a5 a6 a7 a8 a9 a10 a11 a12 a13 a14 a15 a16 a17 h_x1 h_x2 hR h
    have h : ez_faults_9_b k (ez_faults_9 k n) c_x1 c_x2 m = true := h
    unfold ez_faults_9_b at h
    unfold wX_faults_9
    refine zq_br (zq_cle (rfl : (5 : Int32) = nI 5) h_x2) h (fun h => ?_) (fun h => ?_)
    · refine zq_br (zq_cle (rfl : (2 : Int32) = nI 2) h_x1) h (fun h => ?_) (fun h => ?_)
      · exact sz_faults_158 H hk hR h
      · refine zq_br (zq_ceq (zq_g_f2 hR) (rfl : (0 : Int32) = nI 0)) h (fun h => ?_) (fun h => ?_)
        · exact sz_faults_159 H hk (rfl : (1 : Int32) = nI 1) hR h
        · exact sz_faults_158 H hk hR h
    · refine zq_vi h_x2 h (fun q1 h => ?_)
      refine zq_br (zq_ceq (zq_g3 hR h_x2 q1) (rfl : (1 : Int32) = nI 1)) h (fun h => ?_) (fun h => ?_)
      · exact sz_faults_30 H hk ih h_x2 (rfl : (1 : Int32) = nI 1) h_x1 hR h
      · exact sz_faults_30 H hk ih h_x2 (rfl : (0 : Int32) = nI 0) h_x1 hR h
noncomputable def ez_faults (k : Nat → Nat → Bool) (m : Nat) : Bool := zq_fo (zq_wr m 3 0) (fun m1 => ez_faults_9 k 300 0 0 m1)
theorem sz_faults {pl sg : Nat → Nat → Int32} (H : zq_H pl sg) {post : Int32 → St2 → Prop} {k : Nat → Nat → Bool} (hk : ∀ (x : Int32) (c : Nat) (u : St2) (m : Nat), x = nI c → zq_R pl sg m u → k c m = true → post x u) {u : St2} {m : Nat} (hR : zq_R pl sg m u) (h : ez_faults k m = true) : wpX_faults post u := by
  obtain ⟨f0_first, f0_waiting, f0_holder, f0_wrong, a1, a2, a3, a4, a5, a6, a7, a8, a9, a10, a11, a12, a13, a14, a15, a16, a17⟩ := u
  unfold wpX_faults
  unfold ez_faults at h
  refine zq_sf4 hR (rfl : (0 : Int32) = nI 0) h (fun m1 hR h => ?_)
  exact ⟨300, sz_faults_9 H hk 300 _ _ _ _ _ _ _ _ _ _ _ _ _ _ _ _ _ _ _ _ _ _ _ _ _ _ (rfl : (0 : Int32) = nI 0) (rfl : (0 : Int32) = nI 0) hR h⟩
noncomputable def ez_move (k : Nat → Nat → Bool) (c_p0 : Nat) (c_p1 : Nat) (m : Nat) : Bool := ez_isNode (fun c1 => zq_bc (zq_eq c1 0) (k 4294967295 m) (zq_bc (zq_lt c_p1 0) (k 4294967295 m) (zq_bc (zq_le c_p1 2) (zq_bc (zq_bl c_p0 5) (zq_fo (zq_rd m (Nat.add 9 c_p0)) (fun c3 => zq_bc (zq_bl c_p0 5) (zq_fo (zq_wr m (Nat.add 9 c_p0) c_p1) (fun m4 => ez_settle (fun m5 => k c3 m5) m4)) false)) false) (k 4294967295 m)))) c_p0
theorem sz_move {pl sg : Nat → Nat → Int32} (H : zq_H pl sg) {post : Int32 → St2 → Prop} {k : Nat → Nat → Bool} (hk : ∀ (x : Int32) (c : Nat) (u : St2) (m : Nat), x = nI c → zq_R pl sg m u → k c m = true → post x u) {p0 : Int32} {c_p0 : Nat} (h_p0 : p0 = nI c_p0) {p1 : Int32} {c_p1 : Nat} (h_p1 : p1 = nI c_p1) {u : St2} {m : Nat} (hR : zq_R pl sg m u) (h : ez_move k c_p0 c_p1 m = true) : wpX_move post u p0 p1 := by
  obtain ⟨f0_first, f0_waiting, f0_holder, f0_wrong, a1, a2, a3, a4, a5, a6, a7, a8, a9, a10, a11, a12, a13, a14, a15, a16, a17⟩ := u
  unfold wpX_move
  unfold ez_move at h
  refine sz_isNode H ?_ h_p0 h
  intro r_1 c1 hc1 h
  refine zq_br (zq_ceq hc1 (rfl : (0 : Int32) = nI 0)) h (fun h => ?_) (fun h => ?_)
  · exact hk _ _ _ _ zq_m1 hR h
  · refine zq_br (zq_clt h_p1 (rfl : (0 : Int32) = nI 0)) h (fun h => ?_) (fun h => ?_)
    · exact hk _ _ _ _ zq_m1 hR h
    · refine zq_br (zq_cle h_p1 (rfl : (2 : Int32) = nI 2)) h (fun h => ?_) (fun h => ?_)
      · refine zq_vi h_p0 h (fun q2 h => ?_)
        refine zq_le_t h (zq_g2 hR h_p0 q2) (fun x3_6 c3 hc3 h => ?_)
        refine zq_st2 hR h_p0 h_p1 h (fun a2_8 m4 hR h => ?_)
        refine sz_settle H ?_ hR h
        intro u m5 hR h
        obtain ⟨f0_first_10, f0_waiting_11, f0_holder_12, f0_wrong_13, am331_16, am332_19, am333_22, am334_25, am335_28, am336_31, am337_34, am338_37, am339_40, am3310_43, am3311_46, am3312_49, am3313_52, am3314_55, am3315_58, am3316_61, am3317_64⟩ := u
        exact hk _ _ _ _ hc3 hR h
      · exact hk _ _ _ _ zq_m1 hR h
noncomputable def ez_stop_23 (k : Nat → Nat → Bool) (c_x1 : Nat) (c_z0 : Nat) (m : Nat) : Bool := zq_bc (zq_bl c_x1 5) (zq_fo (zq_wr m (Nat.add 4 c_x1) 0) (fun m1 => zq_bc (zq_bl c_x1 5) (zq_fo (zq_wr m1 (Nat.add 14 c_x1) 0) (fun m2 => ez_settle (fun m3 => k c_z0 m3) m2)) false)) false
theorem sz_stop_23 {pl sg : Nat → Nat → Int32} (H : zq_H pl sg) {post : Int32 → St2 → Prop} {k : Nat → Nat → Bool} (hk : ∀ (x : Int32) (c : Nat) (u : St2) (m : Nat), x = nI c → zq_R pl sg m u → k c m = true → post x u) {f0_first : Int32} {f0_waiting : Int32} {f0_holder : Int32} {f0_wrong : Int32} {a1 : Nat → Int32} {a2 : Nat → Int32} {a3 : Nat → Int32} {a4 : Nat → Int32} {a5 : Nat → Int32} {a6 : Nat → Int32} {a7 : Nat → Int32} {a8 : Nat → Int32} {a9 : Nat → Int32} {a10 : Nat → Int32} {a11 : Nat → Int32} {a12 : Nat → Int32} {a13 : Nat → Int32} {a14 : Nat → Int32} {a15 : Nat → Int32} {a16 : Nat → Int32} {a17 : Nat → Int32} {x1 : Int32} {c_x1 : Nat} (h_x1 : x1 = nI c_x1) {z0 : Int32} {c_z0 : Nat} (h_z0 : z0 = nI c_z0) {m : Nat} (hR : zq_R pl sg m (f0_first, f0_waiting, f0_holder, f0_wrong, a1, a2, a3, a4, a5, a6, a7, a8, a9, a10, a11, a12, a13, a14, a15, a16, a17)) (h : ez_stop_23 k c_x1 c_z0 m = true) : wX_stop_23 post x1 z0 f0_first f0_waiting f0_holder f0_wrong a1 a2 a3 a4 a5 a6 a7 a8 a9 a10 a11 a12 a13 a14 a15 a16 a17 := by
  unfold wX_stop_23
  unfold ez_stop_23 at h
  refine zq_st1 hR h_x1 (rfl : (0 : Int32) = nI 0) h (fun a1_6 m1 hR h => ?_)
  refine zq_st3 hR h_x1 (rfl : (0 : Int32) = nI 0) h (fun a3_8 m2 hR h => ?_)
  refine sz_settle H ?_ hR h
  intro u m3 hR h
  obtain ⟨f0_first_10, f0_waiting_11, f0_holder_12, f0_wrong_13, am391_16, am392_19, am393_22, am394_25, am395_28, am396_31, am397_34, am398_37, am399_40, am3910_43, am3911_46, am3912_49, am3913_52, am3914_55, am3915_58, am3916_61, am3917_64⟩ := u
  exact hk _ _ _ _ h_z0 hR h
noncomputable def ez_stop (k : Nat → Nat → Bool) (c_p0 : Nat) (m : Nat) : Bool := ez_isNode (fun c1 => zq_bc (zq_eq c1 0) (k 4294967295 m) (zq_bc (zq_bl c_p0 5) (zq_bc (zq_eq (zq_rd m (Nat.add 4 c_p0)) 0) (ez_stop_23 k c_p0 0 m) (ez_stop_23 k c_p0 1 m)) false)) c_p0
theorem sz_stop {pl sg : Nat → Nat → Int32} (H : zq_H pl sg) {post : Int32 → St2 → Prop} {k : Nat → Nat → Bool} (hk : ∀ (x : Int32) (c : Nat) (u : St2) (m : Nat), x = nI c → zq_R pl sg m u → k c m = true → post x u) {p0 : Int32} {c_p0 : Nat} (h_p0 : p0 = nI c_p0) {u : St2} {m : Nat} (hR : zq_R pl sg m u) (h : ez_stop k c_p0 m = true) : wpX_stop post u p0 := by
  obtain ⟨f0_first, f0_waiting, f0_holder, f0_wrong, a1, a2, a3, a4, a5, a6, a7, a8, a9, a10, a11, a12, a13, a14, a15, a16, a17⟩ := u
  unfold wpX_stop
  unfold ez_stop at h
  refine sz_isNode H ?_ h_p0 h
  intro r_1 c1 hc1 h
  refine zq_br (zq_ceq hc1 (rfl : (0 : Int32) = nI 0)) h (fun h => ?_) (fun h => ?_)
  · exact hk _ _ _ _ zq_m1 hR h
  · refine zq_vi h_p0 h (fun q2 h => ?_)
    refine zq_br (zq_ceq (zq_g1 hR h_p0 q2) (rfl : (0 : Int32) = nI 0)) h (fun h => ?_) (fun h => ?_)
    · exact sz_stop_23 H hk h_p0 (rfl : (0 : Int32) = nI 0) hR h
    · exact sz_stop_23 H hk h_p0 (rfl : (1 : Int32) = nI 1) hR h
noncomputable def ez_compact_2_b (k : Nat → Bool) (ih : Nat → Nat → Bool) (c_x1 : Nat) (m : Nat) : Bool := zq_bc (zq_le 5 c_x1) (k m) (ez_fold (fun m1 => zq_fo (zq_ad c_x1 1) (fun c2 => ih c2 m1)) c_x1 m)
noncomputable def ez_compact_2 (k : Nat → Bool) (n : Nat) : Nat → Nat → Bool := Nat.rec (motive := fun _ => Nat → Nat → Bool) (fun _ _ => false) (fun _ ih => ez_compact_2_b k ih) n
theorem sz_compact_2 {pl sg : Nat → Nat → Int32} (H : zq_H pl sg) {post : St2 → Prop} {k : Nat → Bool} (hk : ∀ (u : St2) (m : Nat), zq_R pl sg m u → k m = true → post u) : ∀ (n : Nat) (x1 : Int32) (c_x1 : Nat) (m : Nat) (f0_first : Int32) (f0_waiting : Int32) (f0_holder : Int32) (f0_wrong : Int32) (a1 : Nat → Int32) (a2 : Nat → Int32) (a3 : Nat → Int32) (a4 : Nat → Int32) (a5 : Nat → Int32) (a6 : Nat → Int32) (a7 : Nat → Int32) (a8 : Nat → Int32) (a9 : Nat → Int32) (a10 : Nat → Int32) (a11 : Nat → Int32) (a12 : Nat → Int32) (a13 : Nat → Int32) (a14 : Nat → Int32) (a15 : Nat → Int32) (a16 : Nat → Int32) (a17 : Nat → Int32), x1 = nI c_x1 → zq_R pl sg m (f0_first, f0_waiting, f0_holder, f0_wrong, a1, a2, a3, a4, a5, a6, a7, a8, a9, a10, a11, a12, a13, a14, a15, a16, a17) → ez_compact_2 k n c_x1 m = true → wX_compact_2 post n x1 f0_first f0_waiting f0_holder f0_wrong a1 a2 a3 a4 a5 a6 a7 a8 a9 a10 a11 a12 a13 a14 a15 a16 a17 := by
  intro n
  induction n with
  | zero =>
    intro x1 c_x1 m f0_first f0_waiting f0_holder f0_wrong a1 a2 a3 a4 a5 a6 a7 a8 a9 a10 a11 a12 a13 a14 a15 a16 a17 h_x1 hR h
    exact zq_ff h
  | succ n ih =>
    intro x1 c_x1 m f0_first f0_waiting f0_holder f0_wrong a1 a2 a3 a4 a5 a6 a7 a8 a9 a10 a11 a12 a13 a14 a15 a16 a17 h_x1 hR h
    have h : ez_compact_2_b k (ez_compact_2 k n) c_x1 m = true := h
    unfold ez_compact_2_b at h
    unfold wX_compact_2
    refine zq_br (zq_cle (rfl : (5 : Int32) = nI 5) h_x1) h (fun h => ?_) (fun h => ?_)
    · exact hk _ _ hR h
    · refine sz_fold H ?_ h_x1 hR h
      intro u m1 hR h
      obtain ⟨f0_first_3, f0_waiting_4, f0_holder_5, f0_wrong_6, am91_9, am92_12, am93_15, am94_18, am95_21, am96_24, am97_27, am98_30, am99_33, am910_36, am911_39, am912_42, am913_45, am914_48, am915_51, am916_54, am917_57⟩ := u
      refine zq_le_t h (zq_xad h_x1 (rfl : (1 : Int32) = nI 1)) (fun x1_58 c2 hc2 h => ?_)
      exact ih _ _ _ _ _ _ _ _ _ _ _ _ _ _ _ _ _ _ _ _ _ _ _ _ hc2 hR h
noncomputable def ez_compact (k : Nat → Bool) (m : Nat) : Bool := ez_compact_2 k 300 0 m
theorem sz_compact {pl sg : Nat → Nat → Int32} (H : zq_H pl sg) {post : St2 → Prop} {k : Nat → Bool} (hk : ∀ (u : St2) (m : Nat), zq_R pl sg m u → k m = true → post u) {u : St2} {m : Nat} (hR : zq_R pl sg m u) (h : ez_compact k m = true) : wpX_compact post u := by
  obtain ⟨f0_first, f0_waiting, f0_holder, f0_wrong, a1, a2, a3, a4, a5, a6, a7, a8, a9, a10, a11, a12, a13, a14, a15, a16, a17⟩ := u
  unfold wpX_compact
  unfold ez_compact at h
  exact ⟨300, sz_compact_2 H hk 300 _ _ _ _ _ _ _ _ _ _ _ _ _ _ _ _ _ _ _ _ _ _ _ _ (rfl : (0 : Int32) = nI 0) hR h⟩
end
section
/-! nodes and groups that may be bad -/
def zl_N (x : Int32) (nd : Nat) : Prop := (nd < 5 ∧ x = nI nd) ∨ (nd = 5 ∧ (x < 0 ∨ 5 ≤ x))
def zl_G (x : Int32) (gd : Nat) : Prop := (gd < 3 ∧ x = nI gd) ∨ (gd = 3 ∧ (x < 0 ∨ 3 ≤ x))
theorem zl_n {x : Int32} {nd : Nat} (h : zl_N x nd) (q : zq_bl nd 5 = true) : x = nI nd := by
  rcases h with ⟨_, e⟩ | ⟨e, _⟩
  · exact e
  · have := zq_bl_s q
    omega
theorem zl_bf {a b : Nat} (q : zq_bl a b = false) : ¬ a < b := by
  intro z
  rw [zq_bl_m z] at q
  exact absurd q (by decide)
theorem zl_b {x : Int32} {nd : Nat} (h : zl_N x nd) (q : zq_bl nd 5 = false) : x < 0 ∨ 5 ≤ x := by
  rcases h with ⟨e, _⟩ | ⟨_, e⟩
  · exact absurd e (zl_bf q)
  · exact e
theorem zl_g {x : Int32} {gd : Nat} (h : zl_G x gd) (q : zq_bl gd 3 = true) : x = nI gd := by
  rcases h with ⟨_, e⟩ | ⟨e, _⟩
  · exact e
  · have := zq_bl_s q
    omega
theorem zl_gb {x : Int32} {gd : Nat} (h : zl_G x gd) (q : zq_bl gd 3 = false) : x < 0 ∨ 3 ≤ x := by
  rcases h with ⟨e, _⟩ | ⟨_, e⟩
  · exact absurd e (zl_bf q)
  · exact e
theorem zl_node {post : Int32 → Prop} {x : Int32} {u : St0} (hb : x < 0 ∨ 5 ≤ x) (h : post 0) : wpX_isNode post u x := by
  unfold wpX_isNode
  refine br_c (fun _ => h) (fun z => ?_)
  rcases hb with g | g
  · exact absurd g z
  · exact br_t g h
theorem zl_nodeg {post : Int32 → Prop} {x : Int32} {u : St0} {n : Nat} (hx : x = nI n) (hn : n < 5) (h : post 1) : wpX_isNode post u x := by
  unfold wpX_isNode
  rw [hx]
  exact br_f (nI_pos (by omega)) (br_f (nI_ge hn (by decide)) h)
theorem zl_key {post : Int32 → Prop} {x : Int32} {u : St0} (hb : x < 0 ∨ 6 ≤ x) (h : post 0) : wpX_isKey post u x := by
  unfold wpX_isKey
  refine br_c (fun _ => h) (fun z => ?_)
  rcases hb with g | g
  · exact absurd g z
  · exact br_t g h
theorem zl_keyg {post : Int32 → Prop} {x : Int32} {u : St0} {n : Nat} (hx : x = nI n) (hn : n < 6) (h : post 1) : wpX_isKey post u x := by
  unfold wpX_isKey
  rw [hx]
  exact br_f (nI_pos (by omega)) (br_f (nI_ge hn (by decide)) h)
theorem zl_ses {post : Int32 → Prop} {x : Int32} {u : St0} (hb : x < 0 ∨ 4 ≤ x) (h : post 0) : wpX_isSession post u x := by
  unfold wpX_isSession
  refine br_c (fun _ => h) (fun z => ?_)
  rcases hb with g | g
  · exact absurd g z
  · exact br_t g h
theorem zl_sesg {post : Int32 → Prop} {x : Int32} {u : St0} {n : Nat} (hx : x = nI n) (hn : n < 4) (h : post 1) : wpX_isSession post u x := by
  unfold wpX_isSession
  rw [hx]
  exact br_f (nI_pos (by omega)) (br_f (nI_ge hn (by decide)) h)
noncomputable def zl_isUp (k : Nat → Bool) (nd m : Nat) : Bool := zq_bc (zq_bl nd 5) (ez_isUp k nd m) (k 4294967295)
theorem sl_isUp {pl sg : Nat → Nat → Int32} (H : zq_H pl sg) {post : Int32 → Prop} {k : Nat → Bool} (hk : ∀ (x : Int32) (c : Nat), x = nI c → k c = true → post x) {x : Int32} {nd : Nat} (hN : zl_N x nd) {u : St2} {m : Nat} (hR : zq_R pl sg m u) (h : zl_isUp k nd m = true) : wpX_isUp post u x := by
  unfold zl_isUp at h
  rcases zq_bc_b h with ⟨q, h⟩ | ⟨q, h⟩
  · exact sz_isUp H hk (zl_n hN q) hR h
  · obtain ⟨f1, f2, f3, f4, a1, a2, a3, a4, a5, a6, a7, a8, a9, a10, a11, a12, a13, a14, a15, a16, a17⟩ := u
    unfold wpX_isUp
    exact zl_node (zl_b hN q) (br_t rfl (hk _ _ zq_m1 h))
noncomputable def zl_isMember (k : Nat → Bool) (nd m : Nat) : Bool := zq_bc (zq_bl nd 5) (ez_isMember k nd m) (k 4294967295)
theorem sl_isMember {pl sg : Nat → Nat → Int32} (H : zq_H pl sg) {post : Int32 → Prop} {k : Nat → Bool} (hk : ∀ (x : Int32) (c : Nat), x = nI c → k c = true → post x) {x : Int32} {nd : Nat} (hN : zl_N x nd) {u : St2} {m : Nat} (hR : zq_R pl sg m u) (h : zl_isMember k nd m = true) : wpX_isMember post u x := by
  unfold zl_isMember at h
  rcases zq_bc_b h with ⟨q, h⟩ | ⟨q, h⟩
  · exact sz_isMember H hk (zl_n hN q) hR h
  · obtain ⟨f1, f2, f3, f4, a1, a2, a3, a4, a5, a6, a7, a8, a9, a10, a11, a12, a13, a14, a15, a16, a17⟩ := u
    unfold wpX_isMember
    exact zl_node (zl_b hN q) (br_t rfl (hk _ _ zq_m1 h))
noncomputable def zl_start (k : Nat → Nat → Bool) (nd m : Nat) : Bool := zq_bc (zq_bl nd 5) (ez_start k nd m) (k 4294967295 m)
theorem sl_start {pl sg : Nat → Nat → Int32} (H : zq_H pl sg) {post : Int32 → St2 → Prop} {k : Nat → Nat → Bool} (hk : ∀ (x : Int32) (c : Nat) (u : St2) (m : Nat), x = nI c → zq_R pl sg m u → k c m = true → post x u) {x : Int32} {nd : Nat} (hN : zl_N x nd) {u : St2} {m : Nat} (hR : zq_R pl sg m u) (h : zl_start k nd m = true) : wpX_start post u x := by
  unfold zl_start at h
  rcases zq_bc_b h with ⟨q, h⟩ | ⟨q, h⟩
  · exact sz_start H hk (zl_n hN q) hR h
  · obtain ⟨f1, f2, f3, f4, a1, a2, a3, a4, a5, a6, a7, a8, a9, a10, a11, a12, a13, a14, a15, a16, a17⟩ := u
    unfold wpX_start
    exact zl_node (zl_b hN q) (br_t rfl (hk _ _ _ _ zq_m1 hR h))
noncomputable def zl_stop (k : Nat → Nat → Bool) (nd m : Nat) : Bool := zq_bc (zq_bl nd 5) (ez_stop k nd m) (k 4294967295 m)
theorem sl_stop {pl sg : Nat → Nat → Int32} (H : zq_H pl sg) {post : Int32 → St2 → Prop} {k : Nat → Nat → Bool} (hk : ∀ (x : Int32) (c : Nat) (u : St2) (m : Nat), x = nI c → zq_R pl sg m u → k c m = true → post x u) {x : Int32} {nd : Nat} (hN : zl_N x nd) {u : St2} {m : Nat} (hR : zq_R pl sg m u) (h : zl_stop k nd m = true) : wpX_stop post u x := by
  unfold zl_stop at h
  rcases zq_bc_b h with ⟨q, h⟩ | ⟨q, h⟩
  · exact sz_stop H hk (zl_n hN q) hR h
  · obtain ⟨f1, f2, f3, f4, a1, a2, a3, a4, a5, a6, a7, a8, a9, a10, a11, a12, a13, a14, a15, a16, a17⟩ := u
    unfold wpX_stop
    exact zl_node (zl_b hN q) (br_t rfl (hk _ _ _ _ zq_m1 hR h))
noncomputable def zl_member (k : Nat → Nat → Bool) (nd fl m : Nat) : Bool := zq_bc (zq_bl nd 5) (ez_member k nd fl m) (k 4294967295 m)
theorem sl_member {pl sg : Nat → Nat → Int32} (H : zq_H pl sg) {post : Int32 → St2 → Prop} {k : Nat → Nat → Bool} (hk : ∀ (x : Int32) (c : Nat) (u : St2) (m : Nat), x = nI c → zq_R pl sg m u → k c m = true → post x u) {x y : Int32} {nd fl : Nat} (hN : zl_N x nd) (hy : y = nI fl) {u : St2} {m : Nat} (hR : zq_R pl sg m u) (h : zl_member k nd fl m = true) : wpX_member post u x y := by
  unfold zl_member at h
  rcases zq_bc_b h with ⟨q, h⟩ | ⟨q, h⟩
  · exact sz_member H hk (zl_n hN q) hy hR h
  · obtain ⟨f1, f2, f3, f4, a1, a2, a3, a4, a5, a6, a7, a8, a9, a10, a11, a12, a13, a14, a15, a16, a17⟩ := u
    unfold wpX_member
    exact zl_node (zl_b hN q) (br_t rfl (hk _ _ _ _ zq_m1 hR h))
noncomputable def zl_move (k : Nat → Nat → Bool) (nd gd m : Nat) : Bool := zq_bc (zq_bl nd 5) (zq_bc (zq_bl gd 3) (ez_move k nd gd m) (k 4294967295 m)) (k 4294967295 m)
theorem sl_move {pl sg : Nat → Nat → Int32} (H : zq_H pl sg) {post : Int32 → St2 → Prop} {k : Nat → Nat → Bool} (hk : ∀ (x : Int32) (c : Nat) (u : St2) (m : Nat), x = nI c → zq_R pl sg m u → k c m = true → post x u) {x y : Int32} {nd gd : Nat} (hN : zl_N x nd) (hG : zl_G y gd) {u : St2} {m : Nat} (hR : zq_R pl sg m u) (h : zl_move k nd gd m = true) : wpX_move post u x y := by
  unfold zl_move at h
  rcases zq_bc_b h with ⟨q, h⟩ | ⟨q, h⟩
  · rcases zq_bc_b h with ⟨q2, h⟩ | ⟨q2, h⟩
    · exact sz_move H hk (zl_n hN q) (zl_g hG q2) hR h
    · obtain ⟨f1, f2, f3, f4, a1, a2, a3, a4, a5, a6, a7, a8, a9, a10, a11, a12, a13, a14, a15, a16, a17⟩ := u
      unfold wpX_move
      refine zl_nodeg (zl_n hN q) (zq_bl_s q) (br_f (by decide) (br_c (fun _ => hk _ _ _ _ zq_m1 hR h) (fun z => br_f ?_ (hk _ _ _ _ zq_m1 hR h))))
      rcases zl_gb hG q2 with g | g
      · exact absurd g z
      · intro z2
        rw [Int32.le_iff_toInt_le] at g z2
        have e3 : (3 : Int32).toInt = 3 := by decide
        have e2 : (2 : Int32).toInt = 2 := by decide
        omega
  · obtain ⟨f1, f2, f3, f4, a1, a2, a3, a4, a5, a6, a7, a8, a9, a10, a11, a12, a13, a14, a15, a16, a17⟩ := u
    unfold wpX_move
    exact zl_node (zl_b hN q) (br_t rfl (hk _ _ _ _ zq_m1 hR h))
noncomputable def zl_move0 (k : Nat → Nat → Bool) (nd m : Nat) : Bool := zq_bc (zq_bl nd 5) (ez_move k nd 0 m) (k 4294967295 m)
theorem sl_move0 {pl sg : Nat → Nat → Int32} (H : zq_H pl sg) {post : Int32 → St2 → Prop} {k : Nat → Nat → Bool} (hk : ∀ (x : Int32) (c : Nat) (u : St2) (m : Nat), x = nI c → zq_R pl sg m u → k c m = true → post x u) {x : Int32} {nd : Nat} (hN : zl_N x nd) {u : St2} {m : Nat} (hR : zq_R pl sg m u) (h : zl_move0 k nd m = true) : wpX_move post u x 0 := by
  unfold zl_move0 at h
  rcases zq_bc_b h with ⟨q, h⟩ | ⟨q, h⟩
  · exact sz_move H hk (zl_n hN q) (rfl : (0 : Int32) = nI 0) hR h
  · obtain ⟨f1, f2, f3, f4, a1, a2, a3, a4, a5, a6, a7, a8, a9, a10, a11, a12, a13, a14, a15, a16, a17⟩ := u
    unfold wpX_move
    exact zl_node (zl_b hN q) (br_t rfl (hk _ _ _ _ zq_m1 hR h))
/-! readers of the applied states -/
theorem zl_cell {pl sg : Nat → Nat → Int32} {m : Nat} {f1 f2 f3 f4 : Int32} {a1 a2 a3 a4 a5 a6 a7 a8 a9 a10 a11 a12 a13 a14 a15 a16 a17 : Nat → Int32} (hR : zq_R pl sg m (f1, f2, f3, f4, a1, a2, a3, a4, a5, a6, a7, a8, a9, a10, a11, a12, a13, a14, a15, a16, a17)) {n j : Nat} (hn : n < 5) (hj : j < 14) : a12 (15 * n + j) = sg (zq_rd m (54 + n) / 64) j := by
  rw [zq_p12 hR n j hn (by omega)]
  unfold zq_ac
  rw [if_neg (by omega)]
/-- who leads now, and the number of the state that it holds -/
noncomputable def zl_lead (v : Nat) (X : Bool) (m : Nat) : Bool := ez_leaderNow (fun l => zq_bc (zq_bl l 5) (zq_bc (Nat.beq (Nat.div (zq_rd m (Nat.add 54 l)) 64) v) X false) false) m
noncomputable def zl_sid (v : Nat) (X : Bool) (m : Nat) : Bool := zq_bc (Nat.beq (Nat.div (zq_rd m 54) 64) v) (zq_bc (Nat.beq (Nat.div (zq_rd m 55) 64) v) (zq_bc (Nat.beq (Nat.div (zq_rd m 56) 64) v) (zq_bc (Nat.beq (Nat.div (zq_rd m 57) 64) v) (zq_bc (Nat.beq (Nat.div (zq_rd m 58) 64) v) X false) false) false) false) false
theorem zl_sid_s {v m : Nat} {X : Bool} (h : zl_sid v X m = true) : (∀ n, n < 5 → zq_rd m (54 + n) / 64 = v) ∧ X = true := by
  unfold zl_sid at h
  obtain ⟨q0, h⟩ := zq_bc_s h
  obtain ⟨q1, h⟩ := zq_bc_s h
  obtain ⟨q2, h⟩ := zq_bc_s h
  obtain ⟨q3, h⟩ := zq_bc_s h
  obtain ⟨q4, h⟩ := zq_bc_s h
  refine ⟨?_, h⟩
  intro n hn
  have e : n = 0 ∨ n = 1 ∨ n = 2 ∨ n = 3 ∨ n = 4 := by omega
  rcases e with e | e | e | e | e <;> subst e
  · exact zq_beq_s q0
  · exact zq_beq_s q1
  · exact zq_beq_s q2
  · exact zq_beq_s q3
  · exact zq_beq_s q4
theorem zl_get {pl sg : Nat → Nat → Int32} (H : zq_H pl sg) {post : Int32 → Prop} {x : Int32} {y v : Nat} {X : Bool} (hx : x = nI y) (hy : y < 6) {u : St2} {m : Nat} (hR : zq_R pl sg m u) (h : zl_lead v X m = true) (hp : X = true → post (sg v y)) : wpX_get post u x := by
  obtain ⟨f1, f2, f3, f4, a1, a2, a3, a4, a5, a6, a7, a8, a9, a10, a11, a12, a13, a14, a15, a16, a17⟩ := u
  unfold wpX_get
  unfold zl_lead at h
  refine sz_leaderNow H ?_ hR h
  intro r l hr h
  obtain ⟨q1, h⟩ := zq_bc_s h
  obtain ⟨q2, h⟩ := zq_bc_s h
  have q1 := zq_bl_s q1
  have q2 : zq_rd m (54 + l) / 64 = v := zq_beq_s q2
  refine zl_keyg hx hy (br_f (by decide) (br_f (by rw [hr]; exact nI_pos (by omega)) ?_))
  have e : (15 : Int32) * r + x = nI (15 * l + y) := by
    rw [hr, hx]
    show nI 15 * nI l + nI y = _
    rw [pk_mul, nI_add]
  rw [e, nI_clamp (by omega), zl_cell hR q1 (by omega), q2]
  exact ⟨vp_in_nI (by omega) (by decide), hp h⟩
theorem zl_getb {pl sg : Nat → Nat → Int32} (H : zq_H pl sg) {post : Int32 → Prop} {x : Int32} {v : Nat} {X : Bool} (hb : x < 0 ∨ 6 ≤ x) {u : St2} {m : Nat} (hR : zq_R pl sg m u) (h : zl_lead v X m = true) (hp : post 0) : wpX_get post u x := by
  obtain ⟨f1, f2, f3, f4, a1, a2, a3, a4, a5, a6, a7, a8, a9, a10, a11, a12, a13, a14, a15, a16, a17⟩ := u
  unfold wpX_get
  unfold zl_lead at h
  refine sz_leaderNow H ?_ hR h
  intro r l hr h
  exact zl_key hb (br_t rfl hp)
theorem zl_canGet {pl sg : Nat → Nat → Int32} (H : zq_H pl sg) {post : Int32 → Prop} {x : Int32} {y v : Nat} {X : Bool} (hx : x = nI y) (hy : y < 6) {u : St2} {m : Nat} (hR : zq_R pl sg m u) (h : zl_lead v X m = true) (hp : post 0) : wpX_canGet post u x := by
  obtain ⟨f1, f2, f3, f4, a1, a2, a3, a4, a5, a6, a7, a8, a9, a10, a11, a12, a13, a14, a15, a16, a17⟩ := u
  unfold wpX_canGet
  refine zl_keyg hx hy (br_f (by decide) ?_)
  unfold zl_lead at h
  refine sz_leaderNow H ?_ hR h
  intro r l hr h
  obtain ⟨q1, h⟩ := zq_bc_s h
  have q1 := zq_bl_s q1
  exact br_t (by rw [hr]; exact nI_pos' (by omega)) hp
theorem zl_canGetb {post : Int32 → Prop} {x : Int32} {u : St2} (hb : x < 0 ∨ 6 ≤ x) (hp : post (-1)) : wpX_canGet post u x := by
  obtain ⟨f1, f2, f3, f4, a1, a2, a3, a4, a5, a6, a7, a8, a9, a10, a11, a12, a13, a14, a15, a16, a17⟩ := u
  unfold wpX_canGet
  exact zl_key hb (br_t rfl hp)
theorem zl_local_g {pl sg : Nat → Nat → Int32} (_H : zq_H pl sg) {post : Int32 → Prop} {x z : Int32} {n y : Nat} (hx : x = nI n) (hn : n < 5) (hz : z = nI y) (hy : y < 6) {u : St2} {m : Nat} (hR : zq_R pl sg m u) (hp : post (sg (zq_rd m (54 + n) / 64) (y))) : wpX_local post u x z := by
  obtain ⟨f1, f2, f3, f4, a1, a2, a3, a4, a5, a6, a7, a8, a9, a10, a11, a12, a13, a14, a15, a16, a17⟩ := u
  unfold wpX_local
  refine zl_nodeg hx hn (br_f (by decide) (zl_keyg hz hy (br_f (by decide) ?_)))
  have e : (15 : Int32) * x + z = nI (15 * n + y) := by
    rw [hx, hz]
    show nI 15 * nI n + nI y = _
    rw [pk_mul, nI_add]
  rw [e, nI_clamp (by omega), zl_cell hR hn (by omega)]
  exact ⟨vp_in_nI (by omega) (by decide), hp⟩
theorem zl_local_b {post : Int32 → Prop} {x z : Int32} {u : St2} (hb : x < 0 ∨ 5 ≤ x) (hp : post 0) : wpX_local post u x z := by
  obtain ⟨f1, f2, f3, f4, a1, a2, a3, a4, a5, a6, a7, a8, a9, a10, a11, a12, a13, a14, a15, a16, a17⟩ := u
  unfold wpX_local
  exact zl_node hb (br_t rfl hp)
theorem zl_local_c {post : Int32 → Prop} {x z : Int32} {n : Nat} {u : St2} (hx : x = nI n) (hn : n < 5) (hb : z < 0 ∨ 6 ≤ z) (hp : post 0) : wpX_local post u x z := by
  obtain ⟨f1, f2, f3, f4, a1, a2, a3, a4, a5, a6, a7, a8, a9, a10, a11, a12, a13, a14, a15, a16, a17⟩ := u
  unfold wpX_local
  exact zl_nodeg hx hn (br_f (by decide) (zl_key hb (br_t rfl hp)))
theorem zl_lastNumber_g {pl sg : Nat → Nat → Int32} (_H : zq_H pl sg) {post : Int32 → Prop} {x z : Int32} {n y : Nat} (hx : x = nI n) (hn : n < 5) (hz : z = nI y) (hy : y < 4) {u : St2} {m : Nat} (hR : zq_R pl sg m u) (hp : post (sg (zq_rd m (54 + n) / 64) (6 + y))) : wpX_lastNumber post u x z := by
  obtain ⟨f1, f2, f3, f4, a1, a2, a3, a4, a5, a6, a7, a8, a9, a10, a11, a12, a13, a14, a15, a16, a17⟩ := u
  unfold wpX_lastNumber
  refine zl_nodeg hx hn (br_f (by decide) (zl_sesg hz hy (br_f (by decide) ?_)))
  have e : (15 : Int32) * x + 6 + z = nI (15 * n + 6 + y) := by
    rw [hx, hz]
    show nI 15 * nI n + nI 6 + nI y = _
    rw [pk_mul, nI_add, nI_add]
  rw [e, nI_clamp (by omega), Nat.add_assoc, zl_cell hR hn (by omega)]
  exact ⟨vp_in_nI (by omega) (by decide), hp⟩
theorem zl_lastNumber_b {post : Int32 → Prop} {x z : Int32} {u : St2} (hb : x < 0 ∨ 5 ≤ x) (hp : post (-1)) : wpX_lastNumber post u x z := by
  obtain ⟨f1, f2, f3, f4, a1, a2, a3, a4, a5, a6, a7, a8, a9, a10, a11, a12, a13, a14, a15, a16, a17⟩ := u
  unfold wpX_lastNumber
  exact zl_node hb (br_t rfl hp)
theorem zl_lastNumber_c {post : Int32 → Prop} {x z : Int32} {n : Nat} {u : St2} (hx : x = nI n) (hn : n < 5) (hb : z < 0 ∨ 4 ≤ z) (hp : post (-1)) : wpX_lastNumber post u x z := by
  obtain ⟨f1, f2, f3, f4, a1, a2, a3, a4, a5, a6, a7, a8, a9, a10, a11, a12, a13, a14, a15, a16, a17⟩ := u
  unfold wpX_lastNumber
  exact zl_nodeg hx hn (br_f (by decide) (zl_ses hb (br_t rfl hp)))
theorem zl_answer_g {pl sg : Nat → Nat → Int32} (_H : zq_H pl sg) {post : Int32 → Prop} {x z : Int32} {n y : Nat} (hx : x = nI n) (hn : n < 5) (hz : z = nI y) (hy : y < 4) {u : St2} {m : Nat} (hR : zq_R pl sg m u) (hp : post (sg (zq_rd m (54 + n) / 64) (10 + y))) : wpX_answer post u x z := by
  obtain ⟨f1, f2, f3, f4, a1, a2, a3, a4, a5, a6, a7, a8, a9, a10, a11, a12, a13, a14, a15, a16, a17⟩ := u
  unfold wpX_answer
  refine zl_nodeg hx hn (br_f (by decide) (zl_sesg hz hy (br_f (by decide) ?_)))
  have e : (15 : Int32) * x + 10 + z = nI (15 * n + 10 + y) := by
    rw [hx, hz]
    show nI 15 * nI n + nI 10 + nI y = _
    rw [pk_mul, nI_add, nI_add]
  rw [e, nI_clamp (by omega), Nat.add_assoc, zl_cell hR hn (by omega)]
  exact ⟨vp_in_nI (by omega) (by decide), hp⟩
theorem zl_answer_b {post : Int32 → Prop} {x z : Int32} {u : St2} (hb : x < 0 ∨ 5 ≤ x) (hp : post 0) : wpX_answer post u x z := by
  obtain ⟨f1, f2, f3, f4, a1, a2, a3, a4, a5, a6, a7, a8, a9, a10, a11, a12, a13, a14, a15, a16, a17⟩ := u
  unfold wpX_answer
  exact zl_node hb (br_t rfl hp)
theorem zl_answer_c {post : Int32 → Prop} {x z : Int32} {n : Nat} {u : St2} (hx : x = nI n) (hn : n < 5) (hb : z < 0 ∨ 4 ≤ z) (hp : post 0) : wpX_answer post u x z := by
  obtain ⟨f1, f2, f3, f4, a1, a2, a3, a4, a5, a6, a7, a8, a9, a10, a11, a12, a13, a14, a15, a16, a17⟩ := u
  unfold wpX_answer
  exact zl_nodeg hx hn (br_f (by decide) (zl_ses hb (br_t rfl hp)))
theorem zl_stand {pl sg : Nat → Nat → Int32} (H : zq_H pl sg) {post : Int32 → Prop} {p0 p1 : Int32} {cd v : Nat} {X : Bool} (h0 : p0 = nI cd) (hc : cd < 72) (h1 : 1 ≤ p1) {u : St2} {m : Nat} (hR : zq_R pl sg m u) (h : zl_lead v X m = true)
    (hp : X = true → ((sg v (6 + cd / 6 % 4) ≤ p1 → ((p1 = sg v (6 + cd / 6 % 4) → post 1) ∧ (¬ p1 = sg v (6 + cd / 6 % 4) → post 0))) ∧ (¬ sg v (6 + cd / 6 % 4) ≤ p1 → post (-3)))) : wpX_standingOf post u p0 p1 := by
  obtain ⟨f1, f2, f3, f4, a1, a2, a3, a4, a5, a6, a7, a8, a9, a10, a11, a12, a13, a14, a15, a16, a17⟩ := u
  unfold wpX_standingOf
  refine br_f (by rw [h0]; exact nI_pos (by omega)) (br_f (by rw [h0]; exact nI_ge hc (by decide)) (br_t h1 ?_))
  unfold zl_lead at h
  refine sz_leaderNow H ?_ hR h
  intro r l hr h
  obtain ⟨q1, h⟩ := zq_bc_s h
  obtain ⟨q2, h⟩ := zq_bc_s h
  have q1 := zq_bl_s q1
  have q2 : zq_rd m (54 + l) / 64 = v := zq_beq_s q2
  refine br_t (by rw [hr]; exact nI_pos' (by omega)) ⟨by decide, by decide, ?_⟩
  have e6 : p0 / 6 = nI (cd / 6) := by
    rw [h0]
    exact pk_div (d := 6) (by omega) (by decide) (by decide)
  have e4 : p0 / 6 - p0 / 6 / 4 * 4 = nI (cd / 6 % 4) := by
    rw [e6]
    exact pk_rem (d := 4) (by omega) (by decide) (by decide)
  have e : (15 : Int32) * r + 6 + (p0 / 6 - p0 / 6 / 4 * 4) = nI (15 * l + (6 + cd / 6 % 4)) := by
    rw [e4, hr]
    show nI 15 * nI l + nI 6 + nI (cd / 6 % 4) = _
    rw [pk_mul, nI_add, nI_add, Nat.add_assoc]
  rw [e, nI_clamp (by omega), zl_cell hR q1 (by omega), q2]
  exact ⟨vp_in_nI (by omega) (by decide), nm_e (hp h)⟩
theorem zl_standb {post : Int32 → Prop} {p0 p1 : Int32} {u : St2} (hb : p0 < 0 ∨ 72 ≤ p0 ∨ p1 < 1) (hp : post (-1)) : wpX_standingOf post u p0 p1 := by
  obtain ⟨f1, f2, f3, f4, a1, a2, a3, a4, a5, a6, a7, a8, a9, a10, a11, a12, a13, a14, a15, a16, a17⟩ := u
  unfold wpX_standingOf
  refine br_c (fun _ => hp) (fun z => br_c (fun _ => hp) (fun z2 => br_f ?_ hp))
  rcases hb with g | g | g
  · exact absurd g z
  · exact absurd g z2
  · intro z3
    rw [Int32.le_iff_toInt_le] at z3
    rw [Int32.lt_iff_toInt_lt] at g
    omega
/-! writing a command -/
def zl_W (pl : Nat → Nat → Int32) (p1 p2 p3 p4 : Int32) (id : Nat) : Prop := id < 50000 ∧ p1 / 24 = pl id 1 ∧ p1 / 6 - p1 / 6 / 4 * 4 = pl id 2 ∧ p1 - p1 / 6 * 6 = pl id 3 ∧ p2 = pl id 4 ∧ p3 = pl id 5 ∧ p4 = pl id 6 ∧ (∀ j, pl (id + 3) j = if j < 4 then pl id j else 0)
noncomputable def ez_writeCmd (k : Nat → Bool) (c_p0 id m : Nat) : Bool :=
  ez_writeI (fun m => ez_lastOf (fun l => ez_cellOf (fun r => zq_bc (zq_bl r 554) (zq_bc (Nat.beq (Nat.mod r 7) 0) (zq_fo (zq_rd m (Nat.add 123 (Nat.div r 7))) (fun e => zq_bc (Nat.beq (Nat.div e 65536) (Nat.add id 3)) (zq_fo (zq_wr m (Nat.add 123 (Nat.div r 7)) (Nat.add (Nat.mod e 65536) (Nat.mul 65536 id))) k) false)) false) false) c_p0 l m) c_p0 m) c_p0 (Nat.add id 3) m
theorem sz_writeCmd {pl sg : Nat → Nat → Int32} (H : zq_H pl sg) {post : St2 → Prop} {k : Nat → Bool} (hk : ∀ (u : St2) (m : Nat), zq_R pl sg m u → k m = true → post u) {p1 p2 p3 p4 : Int32} {id : Nat} (hW : zl_W pl p1 p2 p3 p4 id) {p0 : Int32} {c_p0 : Nat} (h_p0 : p0 = nI c_p0) {u : St2} {m : Nat} (hR : zq_R pl sg m u) (h : ez_writeCmd k c_p0 id m = true) : wpX_writeCommand post u p0 p1 p2 p3 p4 := by
  obtain ⟨hid, w1, w2, w3, w4, w5, w6, hh⟩ := hW
  obtain ⟨f1, f2, f3, f4, a1, a2, a3, a4, a5, a6, a7, a8, a9, a10, a11, a12, a13, a14, a15, a16, a17⟩ := u
  unfold wpX_writeCommand
  unfold ez_writeCmd at h
  refine ⟨by decide, by decide, by decide, by decide, ?_⟩
  refine sz_writeI (id := id + 3) H ?_ h_p0 (w1.trans ((hh 1).trans (if_pos (by decide))).symm) (w2.trans ((hh 2).trans (if_pos (by decide))).symm) (w3.trans ((hh 3).trans (if_pos (by decide))).symm) ((hh 4).trans (if_neg (by decide))).symm ((hh 5).trans (if_neg (by decide))).symm ((hh 6).trans (if_neg (by decide))).symm hR h
  intro u m2 hR h
  obtain ⟨f1, f2, f3, f4, a1, a2, a3, a4, a5, a6, a7, a8, a9, a10, a11, a12, a13, a14, a15, a16, a17⟩ := u
  refine sz_lastOf H ?_ h_p0 hR h
  intro l cl hl h
  refine sz_cellOf H ?_ h_p0 hl hR h
  intro r c hr h
  obtain ⟨q1, h⟩ := zq_bc_s h
  obtain ⟨q2, h⟩ := zq_bc_s h
  obtain ⟨e, ee, h⟩ := zq_fo_e h
  obtain ⟨q3, h⟩ := zq_bc_s h
  obtain ⟨m3, hm, h⟩ := zq_fo_e h
  have q1 := zq_bl_s q1
  have q2 : c % 7 = 0 := zq_beq_s q2
  have q3 : e / 65536 = id + 3 := zq_beq_s q3
  have ee : e = zq_rd m2 (123 + c / 7) := ee
  have hm : m3 = zq_wr m2 (123 + c / 7) (e % 65536 + 65536 * id) := hm
  have V4 := (zq_lcl hr q1 4 (by decide)).2
  have V5 := (zq_lcl hr q1 5 (by decide)).2
  have V6 := (zq_lcl hr q1 6 (by decide)).2
  have C4 : (r + 4).toNatClampNeg = c + 4 := (zq_lcl hr q1 4 (by decide)).1
  have C5 : (r + 5).toNatClampNeg = c + 5 := (zq_lcl hr q1 5 (by decide)).1
  have C6 : (r + 6).toNatClampNeg = c + 6 := (zq_lcl hr q1 6 (by decide)).1
  refine ⟨V4, ?_⟩
  intro d4 z4
  refine ⟨V5, ?_⟩
  intro d5 z5
  refine ⟨V6, ?_⟩
  intro d6 z6
  refine hk _ _ (zq_x10 hR hm (by omega) (by omega) ?_) h
  rw [z6, z5, z4, C4, C5, C6]
  exact zq_L3 (t := e % 65536) (zq_p10 hR) q1 q2 (by omega) (by omega) (by rw [← ee]; omega) hm hh w4 w5 w6
end
section
/-! what the law's scalars say of the payloads and states -/
def zl_p2 (pl : Nat → Nat → Int32) (y : Nat) (v : Int32) : Prop := pl 2 2 = 0 ∧ pl 2 3 = nI y ∧ pl 2 4 = v ∧ pl 2 5 = 100 ∧ pl 2 6 = 0
def zl_E2 (sg : Nat → Nat → Int32) (x16 x19 : Int32) (gf : Nat) : Prop := gf = 0 ∨ (gf = 1 ∧ ∃ y, y < 6 ∧ x16 = nI y ∧ sg 1 y = x19)
def zl_E (pl sg : Nat → Nat → Int32) (x8 x16 x19 : Int32) (gf : Nat) : Prop := (gf = 0 ∧ zl_p2 pl 0 5) ∨ (gf = 1 ∧ ∃ y, y < 6 ∧ x16 = nI y ∧ sg 1 y = x19 ∧ ¬ x8 < 1 ∧ x8 ≤ x8 + 1 ∧ (sg 1 6 = x8 ∨ sg 1 6 = 0) ∧ zl_p2 pl y (x8 + 1))
def zl_D (pl sg : Nat → Nat → Int32) (x0 x3 x7 x8 : Int32) (gf : Nat) : Prop :=
  (gf = 0 ∧ (x7 < 0 ∨ 72 ≤ x7 ∨ x8 < 1) ∧ zl_p2 pl 0 5) ∨
  (gf = 1 ∧ ∃ kd s y, kd < 3 ∧ s < 4 ∧ y < 6 ∧ x7 = nI (24 * kd + 6 * s + y) ∧ ¬ x8 < 1 ∧ x8 ≤ x8 + 1 ∧ pl 1 1 = nI kd ∧ pl 1 2 = nI s ∧ pl 1 3 = nI y ∧ pl 1 4 = x8 ∧ pl 1 5 = x0 ∧ pl 1 6 = x3 ∧ zl_p2 pl y (x8 + 1) ∧
    ∀ j, j < 14 → sg 1 j = if j = 10 + s then 0 else if j = 6 + s then x8 else if j = y then (if kd = 0 then x0 else if kd = 1 then 0 + x0 else if (0 : Int32) = x0 then x3 else 0) else 0)
theorem zl_E12 {pl sg : Nat → Nat → Int32} {x8 x16 x19 : Int32} {gf : Nat} (h : zl_E pl sg x8 x16 x19 gf) : zl_E2 sg x16 x19 gf := by
  rcases h with ⟨e, _⟩ | ⟨e, y, h1, h2, h3, _⟩
  · exact Or.inl e
  · exact Or.inr ⟨e, y, h1, h2, h3⟩
def zl_mv (gd : Nat) : Bool := zq_bl 0 gd && zq_bl gd 3
theorem zl_grp {x : Int32} {gd : Nat} {A B : Prop} {X Y : Bool} (hG : zl_G x gd) (h : zq_bc (zq_bl gd 3) X Y = true) (hb : X = true → B) (ha : Y = true → A) : (x < 0 → A) ∧ (¬ x < 0 → ((3 ≤ x → A) ∧ (¬ 3 ≤ x → B))) := by
  rcases zq_bc_b h with ⟨q, h⟩ | ⟨q, h⟩
  · have e := zl_g hG q
    have q := zq_bl_s q
    rw [e]
    exact br_f (nI_pos (by omega)) (br_f (nI_ge q (by decide)) (hb h))
  · refine br_c (fun _ => ha h) (fun z => ?_)
    rcases zl_gb hG q with g | g
    · exact absurd g z
    · exact br_t g (ha h)
theorem zl_grp0 {x : Int32} {gd : Nat} {A B : Prop} {X Y : Bool} (hG : zl_G x gd) (h : zq_bc (zl_mv gd) X Y = true) (hb : X = true → B) (ha : Y = true → A) : (x ≤ 0 → A) ∧ (¬ x ≤ 0 → ((3 ≤ x → A) ∧ (¬ 3 ≤ x → B))) := by
  unfold zl_mv at h
  rcases zq_bc_b h with ⟨q, h⟩ | ⟨q, h⟩
  · rw [Bool.and_eq_true] at q
    have e := zl_g hG q.2
    have q1 := zq_bl_s q.1
    have q2 := zq_bl_s q.2
    rw [e]
    exact br_f (nI_nle q1 (by omega)) (br_f (nI_ge q2 (by decide)) (hb h))
  · refine br_c (fun _ => ha h) (fun z => ?_)
    rcases hG with ⟨g, e⟩ | ⟨_, g⟩
    · by_cases g0 : gd = 0
      · rw [e, g0] at z
        exact absurd (by decide) z
      · have t : (zq_bl 0 gd && zq_bl gd 3) = true := by
          rw [zq_bl_m (by omega), zq_bl_m g]
          rfl
        rw [t] at q
        exact absurd q (by decide)
    · rcases g with g | g
      · exfalso
        apply z
        rw [Int32.lt_iff_toInt_lt] at g
        rw [Int32.le_iff_toInt_le]
        omega
      · exact br_t g (ha h)
noncomputable def zl_sas99 (k : Nat → Nat → Bool) (m : Nat) : Bool := k 4294967295 m
theorem sl_sas99 {pl sg : Nat → Nat → Int32} {post : Int32 → St2 → Prop} {k : Nat → Nat → Bool} (hk : ∀ (x : Int32) (c : Nat) (u : St2) (m : Nat), x = nI c → zq_R pl sg m u → k c m = true → post x u) {u : St2} {m : Nat} (hR : zq_R pl sg m u) (h : zl_sas99 k m = true) : wpX_submitAndStop post u 99 1 0 0 := by
  obtain ⟨f1, f2, f3, f4, a1, a2, a3, a4, a5, a6, a7, a8, a9, a10, a11, a12, a13, a14, a15, a16, a17⟩ := u
  unfold wpX_submitAndStop
  exact zl_standb (Or.inr (Or.inl (by decide))) (br_f (by decide) (hk _ _ _ _ zq_m1 hR h))
noncomputable def zl_getx (gf : Nat) (X : Bool) (m : Nat) : Bool := zq_bc (Nat.beq gf 1) (zl_lead 1 X m) false
theorem sl_getx {pl sg : Nat → Nat → Int32} (H : zq_H pl sg) {post : Int32 → Prop} {x16 x19 : Int32} {gf : Nat} {X : Bool} (hE : zl_E2 sg x16 x19 gf) {u : St2} {m : Nat} (hR : zq_R pl sg m u) (h : zl_getx gf X m = true) (hp : X = true → post x19) : wpX_get post u x16 := by
  unfold zl_getx at h
  obtain ⟨q, h⟩ := zq_bc_s h
  have q := zq_beq_s q
  rcases hE with e | ⟨_, y, h1, h2, h3⟩
  · omega
  · refine zl_get H h2 h1 hR h (fun z => ?_)
    rw [h3]
    exact hp z
noncomputable def ez_submT (k : Nat → Nat → Bool) (m : Nat) : Bool := ez_leaderNow (fun c1 => ez_writeCmd (fun m2 => ez_spread (fun m3 => ez_settle (fun m4 => k 0 m4) m3) c1 m2) c1 1 m) m
theorem sz_submT {pl sg : Nat → Nat → Int32} (H : zq_H pl sg) {post : Int32 → St2 → Prop} {k : Nat → Nat → Bool} (hk : ∀ (x : Int32) (c : Nat) (u : St2) (m : Nat), x = nI c → zq_R pl sg m u → k c m = true → post x u) {p0 p1 p2 p3 : Int32} (hW : zl_W pl p0 p1 p2 p3 1) {f0_first f0_waiting f0_holder f0_wrong : Int32} {a1 a2 a3 a4 a5 a6 a7 a8 a9 a10 a11 a12 a13 a14 a15 a16 a17 : Nat → Int32} {m : Nat} (hR : zq_R pl sg m (f0_first, f0_waiting, f0_holder, f0_wrong, a1, a2, a3, a4, a5, a6, a7, a8, a9, a10, a11, a12, a13, a14, a15, a16, a17)) (h : ez_submT k m = true) : wpX_leaderNow (fun r_3 => (wpX_writeCommand (fun u => match u with | (f0_first_5, f0_waiting_6, f0_holder_7, f0_wrong_8, am301_11, am302_14, am303_17, am304_20, am305_23, am306_26, am307_29, am308_32, am309_35, am3010_38, am3011_41, am3012_44, am3013_47, am3014_50, am3015_53, am3016_56, am3017_59) => (wpX_spread (fun u => match u with | (f0_first_61, f0_waiting_62, f0_holder_63, f0_wrong_64, am361_67, am362_70, am363_73, am364_76, am365_79, am366_82, am367_85, am368_88, am369_91, am3610_94, am3611_97, am3612_100, am3613_103, am3614_106, am3615_109, am3616_112, am3617_115) => (wpX_settle (fun u => match u with | (f0_first_117, f0_waiting_118, f0_holder_119, f0_wrong_120, am401_123, am402_126, am403_129, am404_132, am405_135, am406_138, am407_141, am408_144, am409_147, am4010_150, am4011_153, am4012_156, am4013_159, am4014_162, am4015_165, am4016_168, am4017_171) => (post 0 (f0_first_117, f0_waiting_118, f0_holder_119, f0_wrong_120, am401_123, am402_126, am403_129, am404_132, am405_135, am406_138, am407_141, am408_144, am409_147, am4010_150, am4011_153, am4012_156, am4013_159, am4014_162, am4015_165, am4016_168, am4017_171))) (f0_first_61, f0_waiting_62, f0_holder_63, f0_wrong_64, am361_67, am362_70, am363_73, am364_76, am365_79, am366_82, am367_85, am368_88, am369_91, am3610_94, am3611_97, am3612_100, am3613_103, am3614_106, am3615_109, am3616_112, am3617_115))) (f0_first_5, f0_waiting_6, f0_holder_7, f0_wrong_8, am301_11, am302_14, am303_17, am304_20, am305_23, am306_26, am307_29, am308_32, am309_35, am3010_38, am3011_41, am3012_44, am3013_47, am3014_50, am3015_53, am3016_56, am3017_59) r_3)) (f0_first, f0_waiting, f0_holder, f0_wrong, a1, a2, a3, a4, a5, a6, a7, a8, a9, a10, a11, a12, a13, a14, a15, a16, a17) r_3 p0 p1 p2 p3)) (f0_first, f0_waiting, f0_holder, f0_wrong, a1, a2, a3, a4, a5, a6, a7, a8, a9, a10, a11, a12, a13, a14, a15, a16, a17) := by
  unfold ez_submT at h
  refine sz_leaderNow H ?_ hR h
  intro r_3 c1 hc1 h
  refine sz_writeCmd H ?_ hW hc1 hR h
  intro u m2 hR h
  obtain ⟨f0_first_5, f0_waiting_6, f0_holder_7, f0_wrong_8, am301_11, am302_14, am303_17, am304_20, am305_23, am306_26, am307_29, am308_32, am309_35, am3010_38, am3011_41, am3012_44, am3013_47, am3014_50, am3015_53, am3016_56, am3017_59⟩ := u
  refine sz_spread H ?_ hc1 hR h
  intro u m3 hR h
  obtain ⟨f0_first_61, f0_waiting_62, f0_holder_63, f0_wrong_64, am361_67, am362_70, am363_73, am364_76, am365_79, am366_82, am367_85, am368_88, am369_91, am3610_94, am3611_97, am3612_100, am3613_103, am3614_106, am3615_109, am3616_112, am3617_115⟩ := u
  refine sz_settle H ?_ hR h
  intro u m4 hR h
  obtain ⟨f0_first_117, f0_waiting_118, f0_holder_119, f0_wrong_120, am401_123, am402_126, am403_129, am404_132, am405_135, am406_138, am407_141, am408_144, am409_147, am4010_150, am4011_153, am4012_156, am4013_159, am4014_162, am4015_165, am4016_168, am4017_171⟩ := u
  exact hk _ _ _ _ (rfl : (0 : Int32) = nI 0) hR h
noncomputable def ez_sasT (k : Nat → Nat → Bool) (m : Nat) : Bool := ez_leaderNow (fun c1 => ez_writeCmd (fun m2 => zq_bc (zq_bl c1 5) (zq_fo (zq_wr m2 (Nat.add 4 c1) 0) (fun m3 => zq_bc (zq_bl c1 5) (zq_fo (zq_wr m3 (Nat.add 14 c1) 0) (fun m4 => zq_fo (zq_wr m4 2 c1) (fun m5 => ez_settle (fun m6 => zq_bc (zq_lt (zq_rd m6 2) 0) (k 3 m6) (k 2 m6)) m5))) false)) false) c1 2 m) m
theorem sz_sasT {pl sg : Nat → Nat → Int32} (H : zq_H pl sg) {post : Int32 → St2 → Prop} {k : Nat → Nat → Bool} (hk : ∀ (x : Int32) (c : Nat) (u : St2) (m : Nat), x = nI c → zq_R pl sg m u → k c m = true → post x u) {p0 p1 p2 p3 : Int32} (hW : zl_W pl p0 p1 p2 p3 2) {f0_first f0_waiting f0_holder f0_wrong : Int32} {a1 a2 a3 a4 a5 a6 a7 a8 a9 a10 a11 a12 a13 a14 a15 a16 a17 : Nat → Int32} {m : Nat} (hR : zq_R pl sg m (f0_first, f0_waiting, f0_holder, f0_wrong, a1, a2, a3, a4, a5, a6, a7, a8, a9, a10, a11, a12, a13, a14, a15, a16, a17)) (h : ez_sasT k m = true) : wpX_leaderNow (fun r_3 => (wpX_writeCommand (fun u => match u with | (f0_first_5, f0_waiting_6, f0_holder_7, f0_wrong_8, am301_11, am302_14, am303_17, am304_20, am305_23, am306_26, am307_29, am308_32, am309_35, am3010_38, am3011_41, am3012_44, am3013_47, am3014_50, am3015_53, am3016_56, am3017_59) => (vp_in r_3 5 ∧ ∀ am301_61 : Nat → Int32, am301_61 = (upd am301_11 r_3.toNatClampNeg 0) → (vp_in r_3 5 ∧ ∀ am303_63 : Nat → Int32, am303_63 = (upd am303_17 r_3.toNatClampNeg 0) → (wpX_settle (fun u => match u with | (f0_first_65, f0_waiting_66, f0_holder_67, f0_wrong_68, am561_71, am562_74, am563_77, am564_80, am565_83, am566_86, am567_89, am568_92, am569_95, am5610_98, am5611_101, am5612_104, am5613_107, am5614_110, am5615_113, am5616_116, am5617_119) => ((f0_holder_67 < 0 → (post 3 (f0_first_65, f0_waiting_66, f0_holder_67, f0_wrong_68, am561_71, am562_74, am563_77, am564_80, am565_83, am566_86, am567_89, am568_92, am569_95, am5610_98, am5611_101, am5612_104, am5613_107, am5614_110, am5615_113, am5616_116, am5617_119))) ∧ (¬ f0_holder_67 < 0 → (post 2 (f0_first_65, f0_waiting_66, f0_holder_67, f0_wrong_68, am561_71, am562_74, am563_77, am564_80, am565_83, am566_86, am567_89, am568_92, am569_95, am5610_98, am5611_101, am5612_104, am5613_107, am5614_110, am5615_113, am5616_116, am5617_119))))) (f0_first_5, f0_waiting_6, r_3, f0_wrong_8, am301_61, am302_14, am303_63, am304_20, am305_23, am306_26, am307_29, am308_32, am309_35, am3010_38, am3011_41, am3012_44, am3013_47, am3014_50, am3015_53, am3016_56, am3017_59))))) (f0_first, f0_waiting, f0_holder, f0_wrong, a1, a2, a3, a4, a5, a6, a7, a8, a9, a10, a11, a12, a13, a14, a15, a16, a17) r_3 p0 p1 p2 p3)) (f0_first, f0_waiting, f0_holder, f0_wrong, a1, a2, a3, a4, a5, a6, a7, a8, a9, a10, a11, a12, a13, a14, a15, a16, a17) := by
  unfold ez_sasT at h
  refine sz_leaderNow H ?_ hR h
  intro r_3 c1 hc1 h
  refine sz_writeCmd H ?_ hW hc1 hR h
  intro u m2 hR h
  obtain ⟨f0_first_5, f0_waiting_6, f0_holder_7, f0_wrong_8, am301_11, am302_14, am303_17, am304_20, am305_23, am306_26, am307_29, am308_32, am309_35, am3010_38, am3011_41, am3012_44, am3013_47, am3014_50, am3015_53, am3016_56, am3017_59⟩ := u
  refine zq_st1 hR hc1 (rfl : (0 : Int32) = nI 0) h (fun am301_61 m3 hR h => ?_)
  refine zq_st3 hR hc1 (rfl : (0 : Int32) = nI 0) h (fun am303_63 m4 hR h => ?_)
  refine zq_sf3 hR hc1 h (fun m5 hR h => ?_)
  refine sz_settle H ?_ hR h
  intro u m6 hR h
  obtain ⟨f0_first_65, f0_waiting_66, f0_holder_67, f0_wrong_68, am561_71, am562_74, am563_77, am564_80, am565_83, am566_86, am567_89, am568_92, am569_95, am5610_98, am5611_101, am5612_104, am5613_107, am5614_110, am5615_113, am5616_116, am5617_119⟩ := u
  refine zq_br (zq_clt (zq_g_f3 hR) (rfl : (0 : Int32) = nI 0)) h (fun h => ?_) (fun h => ?_)
  · exact hk _ _ _ _ (rfl : (3 : Int32) = nI 3) hR h
  · exact hk _ _ _ _ (rfl : (2 : Int32) = nI 2) hR h
theorem zl_code {pl sg : Nat → Nat → Int32} (H : zq_H pl sg) {y : Nat} {v : Int32} (hy : y < 6) (h : zl_p2 pl y v) : zl_W pl (nI (24 + y)) v 100 0 2 := by
  obtain ⟨h2, h3, h4, h5, h6⟩ := h
  have e6 : nI (24 + y) / 6 = nI 4 := by
    have e := pk_div (a := 24 + y) (d := 6) (by omega) (by decide) (by decide)
    rw [show (24 + y) / 6 = 4 by omega] at e
    exact e
  refine ⟨by decide, ?_, ?_, ?_, h4.symm, h5.symm, h6.symm, H.2.2.2.2.2.2.1⟩
  · have e := pk_div (a := 24 + y) (d := 24) (by omega) (by decide) (by decide)
    rw [show (24 + y) / 24 = 1 by omega] at e
    exact e.trans H.2.2.2.2.1.symm
  · rw [e6, h2]
    decide
  · rw [h3]
    have e := pk_rem (a := 24 + y) (d := 6) (by omega) (by decide) (by decide)
    rw [show (24 + y) % 6 = y by omega] at e
    exact e
theorem zl_sas {pl sg : Nat → Nat → Int32} (H : zq_H pl sg) {post : Int32 → St2 → Prop} {k : Nat → Nat → Bool} (hk : ∀ (x : Int32) (c : Nat) (u : St2) (m : Nat), x = nI c → zq_R pl sg m u → k c m = true → post x u) {p0 p1 p2 p3 : Int32} {y v : Nat} (h0 : p0 = nI (24 + y)) (hy : y < 6) (h1 : 1 ≤ p1) (hl : sg v 6 ≤ p1) (hn : ¬ p1 = sg v 6) (hW : zl_W pl p0 p1 p2 p3 2) {u : St2} {m : Nat} (hR : zq_R pl sg m u) (h : zl_lead v (ez_sasT k m) m = true) : wpX_submitAndStop post u p0 p1 p2 p3 := by
  obtain ⟨f1, f2, f3, f4, a1, a2, a3, a4, a5, a6, a7, a8, a9, a10, a11, a12, a13, a14, a15, a16, a17⟩ := u
  unfold wpX_submitAndStop
  refine zl_stand (cd := 24 + y) H h0 (by omega) h1 hR h (fun h => ?_)
  have e : 6 + (24 + y) / 6 % 4 = 6 := by omega
  rw [e]
  exact br_t hl (br_f hn (br_t rfl (sz_sasT H hk hW hR h)))
theorem zl_subm {pl sg : Nat → Nat → Int32} (H : zq_H pl sg) {post : Int32 → St2 → Prop} {k : Nat → Nat → Bool} (hk : ∀ (x : Int32) (c : Nat) (u : St2) (m : Nat), x = nI c → zq_R pl sg m u → k c m = true → post x u) {p0 p1 p2 p3 : Int32} {cd : Nat} (h0 : p0 = nI cd) (hc : cd < 72) (h1 : 1 ≤ p1) (hW : zl_W pl p0 p1 p2 p3 1) {u : St2} {m : Nat} (hR : zq_R pl sg m u) (h : zl_lead 0 (ez_submT k m) m = true) : wpX_submit post u p0 p1 p2 p3 := by
  obtain ⟨f1, f2, f3, f4, a1, a2, a3, a4, a5, a6, a7, a8, a9, a10, a11, a12, a13, a14, a15, a16, a17⟩ := u
  unfold wpX_submit
  refine zl_stand (cd := cd) H h0 hc h1 hR h (fun h => ?_)
  rw [H.2.2.1]
  refine br_t ?_ (br_f ?_ (br_t rfl (sz_submT H hk hW hR h)))
  · rw [Int32.le_iff_toInt_le] at h1 ⊢
    have e1 : (1 : Int32).toInt = 1 := by decide
    have e0 : (0 : Int32).toInt = 0 := by decide
    omega
  · intro z
    rw [z] at h1
    exact absurd h1 (by decide)
noncomputable def el_996 (c_x15 : Nat) (c_z0 : Nat) (c_z1 : Nat) (m : Nat) : Bool := zq_bc (zq_eq c_z1 c_z0) (ez_compact (fun m1 => ez_faults (fun c2 m3 => zq_bc (zq_eq c2 0) (ez_pending (fun c4 => zq_bc (zq_eq c4 0) (zl_sas99 (fun c5 m6 => zq_bc (zq_eq c5 4294967295) (ez_start (fun c7 m8 => zq_bc (zq_eq c7 4294967295) (zq_bc (zq_eq c_x15 0) (true) (zl_getx c_x15 (true) m8)) (false)) 5 m6) (false)) m3) (false)) m3) (false)) m1) m) (false)
theorem sl_996 {pl sg : Nat → Nat → Int32} (H : zq_H pl sg) {post : Int32 → St0 → Prop} (hp : post 1 ()) {mc ms kc ks : Nat} {x15 x16 x19 x22 z0 z1 : Int32} {c_x15 c_z0 c_z1 : Nat} (hX : ¬ x22 ≤ 9) (hE : zl_E2 sg x16 x19 c_x15) (h_x15 : x15 = nI c_x15) (h_z0 : z0 = nI c_z0) (h_z1 : z1 = nI c_z1) {fm0_first fm0_waiting fm0_holder fm0_wrong : Int32} {am9741 am9742 am9743 am9744 am9745 am9746 am9747 am9748 am9749 am97410 am97411 am97412 am97413 am97414 am97415 am97416 am97417 : Nat → Int32} {m : Nat} (hR : zq_R pl sg m (fm0_first, fm0_waiting, fm0_holder, fm0_wrong, am9741, am9742, am9743, am9744, am9745, am9746, am9747, am9748, am9749, am97410, am97411, am97412, am97413, am97414, am97415, am97416, am97417)) (h : el_996 c_x15 c_z0 c_z1 m = true) : wL_lawOf_996 post mc ms x15 x16 x19 x22 z0 z1 kc ks fm0_first fm0_waiting fm0_holder fm0_wrong am9741 am9742 am9743 am9744 am9745 am9746 am9747 am9748 am9749 am97410 am97411 am97412 am97413 am97414 am97415 am97416 am97417 := by
  unfold wL_lawOf_996
  unfold el_996 at h
  refine zq_br (zq_ceq h_z1 h_z0) h (fun h => ?_) (fun h => ?_)
  · refine sz_compact H ?_ hR h
    intro u m1 hR h
    obtain ⟨fm0_first_823, fm0_waiting_824, fm0_holder_825, fm0_wrong_826, am10031_829, am10032_832, am10033_835, am10034_838, am10035_841, am10036_844, am10037_847, am10038_850, am10039_853, am100310_856, am100311_859, am100312_862, am100313_865, am100314_868, am100315_871, am100316_874, am100317_877⟩ := u
    refine sz_faults H ?_ hR h
    intro r_878 c2 u m3 hc2 hR h
    obtain ⟨fm0_first_879, fm0_waiting_880, fm0_holder_881, fm0_wrong_882, am10081_885, am10082_888, am10083_891, am10084_894, am10085_897, am10086_900, am10087_903, am10088_906, am10089_909, am100810_912, am100811_915, am100812_918, am100813_921, am100814_924, am100815_927, am100816_930, am100817_933⟩ := u
    refine zq_br (zq_ceq hc2 (rfl : (0 : Int32) = nI 0)) h (fun h => ?_) (fun h => ?_)
    · refine sz_pending H ?_ hR h
      intro r_935 c4 hc4 h
      refine zq_br (zq_ceq hc4 (rfl : (0 : Int32) = nI 0)) h (fun h => ?_) (fun h => ?_)
      · refine sl_sas99 ?_ hR h
        intro r_937 c5 u m6 hc5 hR h
        obtain ⟨fm0_first_938, fm0_waiting_939, fm0_holder_940, fm0_wrong_941, am10291_944, am10292_947, am10293_950, am10294_953, am10295_956, am10296_959, am10297_962, am10298_965, am10299_968, am102910_971, am102911_974, am102912_977, am102913_980, am102914_983, am102915_986, am102916_989, am102917_992⟩ := u
        refine zq_br (zq_ceq hc5 zq_m1) h (fun h => ?_) (fun h => ?_)
        · refine sz_start H ?_ (rfl : (5 : Int32) = nI 5) hR h
          intro r_994 c7 u m8 hc7 hR h
          obtain ⟨fm0_first_995, fm0_waiting_996, fm0_holder_997, fm0_wrong_998, am10391_1001, am10392_1004, am10393_1007, am10394_1010, am10395_1013, am10396_1016, am10397_1019, am10398_1022, am10399_1025, am103910_1028, am103911_1031, am103912_1034, am103913_1037, am103914_1040, am103915_1043, am103916_1046, am103917_1049⟩ := u
          refine zq_br (zq_ceq hc7 zq_m1) h (fun h => ?_) (fun h => ?_)
          · refine br_f hX ?_
            refine zq_br (zq_ceq h_x15 (rfl : (0 : Int32) = nI 0)) h (fun h => ?_) (fun h => ?_)
            · exact hp
            · refine sl_getx H hE hR h (fun h => br_t rfl ?_)
              exact hp
          · exact zq_ff h
        · exact zq_ff h
      · exact zq_ff h
    · exact zq_ff h
  · exact zq_ff h
noncomputable def el_995 (c_x15 : Nat) (c_z0 : Nat) (m : Nat) : Bool := el_996 c_x15 3 c_z0 m
theorem sl_995 {pl sg : Nat → Nat → Int32} (H : zq_H pl sg) {post : Int32 → St0 → Prop} (hp : post 1 ()) {mc ms kc ks : Nat} {x15 x16 x19 x22 z0 : Int32} {c_x15 c_z0 : Nat} (hX : ¬ x22 ≤ 9) (hE : zl_E2 sg x16 x19 c_x15) (h_x15 : x15 = nI c_x15) (h_z0 : z0 = nI c_z0) {fm0_first fm0_waiting fm0_holder fm0_wrong : Int32} {am9741 am9742 am9743 am9744 am9745 am9746 am9747 am9748 am9749 am97410 am97411 am97412 am97413 am97414 am97415 am97416 am97417 : Nat → Int32} {m : Nat} (hR : zq_R pl sg m (fm0_first, fm0_waiting, fm0_holder, fm0_wrong, am9741, am9742, am9743, am9744, am9745, am9746, am9747, am9748, am9749, am97410, am97411, am97412, am97413, am97414, am97415, am97416, am97417)) (h : el_995 c_x15 c_z0 m = true) : wL_lawOf_995 post mc ms x15 x16 x19 x22 z0 kc ks fm0_first fm0_waiting fm0_holder fm0_wrong am9741 am9742 am9743 am9744 am9745 am9746 am9747 am9748 am9749 am97410 am97411 am97412 am97413 am97414 am97415 am97416 am97417 := by
  unfold wL_lawOf_995
  unfold el_995 at h
  exact sl_996 H hp hX hE h_x15 (rfl : (3 : Int32) = nI 3) h_z0 hR h
noncomputable def el_tail (c_x15 m : Nat) : Bool := zl_lead c_x15 (ez_sasT (fun c m2 => el_995 c_x15 c m2) m) m
theorem zl_up (x : Int32) : ¬ (x &&& 7) + 10 ≤ 9 := by
  obtain ⟨j, hj, e⟩ := pk_andE x (m := 7) 3 (by decide)
  rw [e]
  show ¬ nI j + nI 10 ≤ nI 9
  rw [nI_add]
  exact nI_ge (by omega) (by omega)
theorem zl_n1 {x : Int32} (h : x ≤ x + 1) : ¬ x + 1 = x := by
  intro z
  have e : (1 : Int32) = 0 := by
    have e2 : x + 1 - x = x - x := by rw [z]
    rw [Int32.sub_self] at e2
    have e3 : x + 1 - x = 1 := by grind
    rw [e3] at e2
    exact e2
  exact absurd e (by decide)
theorem sl_tail {pl sg : Nat → Nat → Int32} (H : zq_H pl sg) {post : Int32 → St0 → Prop} (hp : post 1 ()) {mc ms kc ks : Nat} {x8 x15 x16 x19 : Int32} {c_x15 : Nat} (hE : zl_E pl sg x8 x16 x19 c_x15) (h_x15 : x15 = nI c_x15) {fm0_first fm0_waiting fm0_holder fm0_wrong : Int32} {am8701 am8702 am8703 am8704 am8705 am8706 am8707 am8708 am8709 am87010 am87011 am87012 am87013 am87014 am87015 am87016 am87017 : Nat → Int32} {m : Nat} (hR : zq_R pl sg m (fm0_first, fm0_waiting, fm0_holder, fm0_wrong, am8701, am8702, am8703, am8704, am8705, am8706, am8707, am8708, am8709, am87010, am87011, am87012, am87013, am87014, am87015, am87016, am87017)) (h : el_tail c_x15 m = true) : ∀ x22_761 : Int32, x22_761 = ((x8 &&& 7) + 10) → ((x15 = 0 → (wL_lawOf_943 post mc ms x8 x15 x16 x19 x22_761 0 24 kc ks fm0_first fm0_waiting fm0_holder fm0_wrong am8701 am8702 am8703 am8704 am8705 am8706 am8707 am8708 am8709 am87010 am87011 am87012 am87013 am87014 am87015 am87016 am87017)) ∧ (¬ x15 = 0 → (wL_lawOf_943 post mc ms x8 x15 x16 x19 x22_761 x16 24 kc ks fm0_first fm0_waiting fm0_holder fm0_wrong am8701 am8702 am8703 am8704 am8705 am8706 am8707 am8708 am8709 am87010 am87011 am87012 am87013 am87014 am87015 am87016 am87017))) := by
  intro x22 ex
  have hX : ¬ x22 ≤ 9 := by
    rw [ex]
    exact zl_up x8
  unfold el_tail at h
  rcases hE with ⟨e, h2⟩ | ⟨e, y, hy, e16, e19, hn1, hle, hs6, h2⟩
  · subst e
    have h0 : sg 0 6 = 0 := H.2.2.1 6
    refine br_t (by rw [h_x15]; rfl) ?_
    unfold wL_lawOf_943
    refine br_t (by rw [h_x15]; rfl) ?_
    unfold wL_lawOf_971
    refine zl_sas (y := 0) (v := 0) H ?_ rfl (by decide) (by decide) (by rw [h0]; decide) (by rw [h0]; decide) (zl_code H (y := 0) (by decide) h2) hR h
    intro r c u m2 hr hR h
    obtain ⟨g1, g2, g3, g4, b1, b2, b3, b4, b5, b6, b7, b8, b9, b10, b11, b12, b13, b14, b15, b16, b17⟩ := u
    refine br_t (by rw [h_x15]; rfl) ?_
    exact sl_995 H hp hX (Or.inl rfl) h_x15 hr hR h
  · subst e
    have n15 : ¬ x15 = 0 := by
      rw [h_x15]
      decide
    have g1 : (1 : Int32) ≤ x8 + 1 := by
      rw [Int32.lt_iff_toInt_lt] at hn1
      rw [Int32.le_iff_toInt_le] at hle ⊢
      omega
    refine br_f n15 ?_
    unfold wL_lawOf_943
    refine br_f n15 (br_t hle ?_)
    unfold wL_lawOf_971
    have h0 : (24 : Int32) + x16 = nI (24 + y) := by
      rw [e16]
      exact nI_add 24 y
    refine zl_sas (y := y) (v := 1) H ?_ h0 hy g1 ?_ ?_ (by rw [h0]; exact zl_code H hy h2) hR h
    · intro r c u m2 hr hR h
      obtain ⟨g1, g2, g3, g4, b1, b2, b3, b4, b5, b6, b7, b8, b9, b10, b11, b12, b13, b14, b15, b16, b17⟩ := u
      refine br_f n15 (br_t hle ?_)
      exact sl_995 H hp hX (Or.inr ⟨rfl, y, hy, e16, e19⟩) h_x15 hr hR h
    · rcases hs6 with g | g
      · rw [g]
        exact hle
      · rw [g]
        rw [Int32.le_iff_toInt_le] at g1 ⊢
        have e1 : (1 : Int32).toInt = 1 := by decide
        have e0 : (0 : Int32).toInt = 0 := by decide
        omega
    · rcases hs6 with g | g
      · rw [g]
        exact zl_n1 hle
      · rw [g]
        intro z
        rw [z] at g1
        exact absurd g1 (by decide)
end
section
noncomputable def el_903 (c_x15 : Nat) (c_x21 : Nat) (c_z0 : Nat) (c_z1 : Nat) (m : Nat) : Bool := zq_bc (zq_eq c_z1 c_z0) (ez_leader (fun c1 => zq_bc (zq_eq c1 c_x21) (el_tail c_x15 m) (false)) m) (false)
theorem sl_903 {pl sg : Nat → Nat → Int32} (H : zq_H pl sg) {post : Int32 → St0 → Prop} (hp : post 1 ()) {mc ms kc ks : Nat} {x8 x15 x16 x19 x21 z0 z1 : Int32} {c_x15 c_x21 c_z0 c_z1 : Nat} (hE : zl_E pl sg x8 x16 x19 c_x15) (h_x15 : x15 = nI c_x15) (h_x21 : x21 = nI c_x21) (h_z0 : z0 = nI c_z0) (h_z1 : z1 = nI c_z1) {fm0_first fm0_waiting fm0_holder fm0_wrong : Int32} {am8701 am8702 am8703 am8704 am8705 am8706 am8707 am8708 am8709 am87010 am87011 am87012 am87013 am87014 am87015 am87016 am87017 : Nat → Int32} {m : Nat} (hR : zq_R pl sg m (fm0_first, fm0_waiting, fm0_holder, fm0_wrong, am8701, am8702, am8703, am8704, am8705, am8706, am8707, am8708, am8709, am87010, am87011, am87012, am87013, am87014, am87015, am87016, am87017)) (h : el_903 c_x15 c_x21 c_z0 c_z1 m = true) : wL_lawOf_903 post mc ms x8 x15 x16 x19 x21 z0 z1 kc ks fm0_first fm0_waiting fm0_holder fm0_wrong am8701 am8702 am8703 am8704 am8705 am8706 am8707 am8708 am8709 am87010 am87011 am87012 am87013 am87014 am87015 am87016 am87017 := by
  unfold wL_lawOf_903
  unfold el_903 at h
  refine zq_br (zq_ceq h_z1 h_z0) h (fun h => ?_) (fun h => ?_)
  · refine sz_leader H ?_ hR h
    intro r_759 c1 hc1 h
    refine zq_br (zq_ceq hc1 h_x21) h (fun h => ?_) (fun h => ?_)
    · exact sl_tail H hp hE h_x15 hR h
    · exact zq_ff h
  · exact zq_ff h
noncomputable def el_883 (nd : Nat) (c_x9 : Nat) (c_x15 : Nat) (c_x21 : Nat) (c_z0 : Nat) (c_z1 : Nat) (m : Nat) : Bool := zq_bc (zq_eq c_z1 c_z0) (zl_isMember (fun c1 => zq_bc (zq_eq c_x9 0) (el_903 c_x15 c_x21 4294967295 c1 m) (el_903 c_x15 c_x21 0 c1 m)) nd m) (false)
theorem sl_883 {pl sg : Nat → Nat → Int32} (H : zq_H pl sg) {post : Int32 → St0 → Prop} (hp : post 1 ()) {mc ms kc ks : Nat} {x5 x8 x9 x15 x16 x19 x21 z0 z1 : Int32} {nd c_x9 c_x15 c_x21 c_z0 c_z1 : Nat} (hN : zl_N x5 nd) (hE : zl_E pl sg x8 x16 x19 c_x15) (h_x9 : x9 = nI c_x9) (h_x15 : x15 = nI c_x15) (h_x21 : x21 = nI c_x21) (h_z0 : z0 = nI c_z0) (h_z1 : z1 = nI c_z1) {fm0_first fm0_waiting fm0_holder fm0_wrong : Int32} {am8701 am8702 am8703 am8704 am8705 am8706 am8707 am8708 am8709 am87010 am87011 am87012 am87013 am87014 am87015 am87016 am87017 : Nat → Int32} {m : Nat} (hR : zq_R pl sg m (fm0_first, fm0_waiting, fm0_holder, fm0_wrong, am8701, am8702, am8703, am8704, am8705, am8706, am8707, am8708, am8709, am87010, am87011, am87012, am87013, am87014, am87015, am87016, am87017)) (h : el_883 nd c_x9 c_x15 c_x21 c_z0 c_z1 m = true) : wL_lawOf_883 post mc ms x5 x8 x9 x15 x16 x19 x21 z0 z1 kc ks fm0_first fm0_waiting fm0_holder fm0_wrong am8701 am8702 am8703 am8704 am8705 am8706 am8707 am8708 am8709 am87010 am87011 am87012 am87013 am87014 am87015 am87016 am87017 := by
  unfold wL_lawOf_883
  unfold el_883 at h
  refine zq_br (zq_ceq h_z1 h_z0) h (fun h => ?_) (fun h => ?_)
  · refine sl_isMember H ?_ hN hR h
    intro r_756 c1 hc1 h
    refine zq_br (zq_ceq h_x9 (rfl : (0 : Int32) = nI 0)) h (fun h => ?_) (fun h => ?_)
    · exact sl_903 H hp hE h_x15 h_x21 zq_m1 hc1 hR h
    · exact sl_903 H hp hE h_x15 h_x21 (rfl : (0 : Int32) = nI 0) hc1 hR h
  · exact zq_ff h
noncomputable def el_862 (nd : Nat) (c_x9 : Nat) (c_x15 : Nat) (c_x21 : Nat) (c_z0 : Nat) (c_z1 : Nat) (m : Nat) : Bool := zq_bc (zq_eq c_z1 c_z0) (zl_member (fun c1 m2 => zq_bc (zq_eq c_x9 0) (el_883 nd c_x9 c_x15 c_x21 4294967295 c1 m2) (el_883 nd c_x9 c_x15 c_x21 0 c1 m2)) nd 0 m) (false)
theorem sl_862 {pl sg : Nat → Nat → Int32} (H : zq_H pl sg) {post : Int32 → St0 → Prop} (hp : post 1 ()) {mc ms kc ks : Nat} {x5 x8 x9 x15 x16 x19 x21 z0 z1 : Int32} {nd c_x9 c_x15 c_x21 c_z0 c_z1 : Nat} (hN : zl_N x5 nd) (hE : zl_E pl sg x8 x16 x19 c_x15) (h_x9 : x9 = nI c_x9) (h_x15 : x15 = nI c_x15) (h_x21 : x21 = nI c_x21) (h_z0 : z0 = nI c_z0) (h_z1 : z1 = nI c_z1) {fm0_first fm0_waiting fm0_holder fm0_wrong : Int32} {am8491 am8492 am8493 am8494 am8495 am8496 am8497 am8498 am8499 am84910 am84911 am84912 am84913 am84914 am84915 am84916 am84917 : Nat → Int32} {m : Nat} (hR : zq_R pl sg m (fm0_first, fm0_waiting, fm0_holder, fm0_wrong, am8491, am8492, am8493, am8494, am8495, am8496, am8497, am8498, am8499, am84910, am84911, am84912, am84913, am84914, am84915, am84916, am84917)) (h : el_862 nd c_x9 c_x15 c_x21 c_z0 c_z1 m = true) : wL_lawOf_862 post mc ms x5 x8 x9 x15 x16 x19 x21 z0 z1 kc ks fm0_first fm0_waiting fm0_holder fm0_wrong am8491 am8492 am8493 am8494 am8495 am8496 am8497 am8498 am8499 am84910 am84911 am84912 am84913 am84914 am84915 am84916 am84917 := by
  unfold wL_lawOf_862
  unfold el_862 at h
  refine zq_br (zq_ceq h_z1 h_z0) h (fun h => ?_) (fun h => ?_)
  · refine sl_member H ?_ hN (rfl : (0 : Int32) = nI 0) hR h
    intro r_698 c1 u m2 hc1 hR h
    obtain ⟨fm0_first_699, fm0_waiting_700, fm0_holder_701, fm0_wrong_702, am8701_705, am8702_708, am8703_711, am8704_714, am8705_717, am8706_720, am8707_723, am8708_726, am8709_729, am87010_732, am87011_735, am87012_738, am87013_741, am87014_744, am87015_747, am87016_750, am87017_753⟩ := u
    refine zq_br (zq_ceq h_x9 (rfl : (0 : Int32) = nI 0)) h (fun h => ?_) (fun h => ?_)
    · exact sl_883 H hp hN hE h_x9 h_x15 h_x21 zq_m1 hc1 hR h
    · exact sl_883 H hp hN hE h_x9 h_x15 h_x21 (rfl : (0 : Int32) = nI 0) hc1 hR h
  · exact zq_ff h
noncomputable def el_832 (nd : Nat) (c_x9 : Nat) (c_x15 : Nat) (c_z0 : Nat) (m : Nat) : Bool := ez_leader (fun c1 => zq_bc (zq_eq c1 c_z0) (zl_member (fun c2 m3 => zq_bc (zq_eq c_x9 0) (el_862 nd c_x9 c_x15 c_z0 4294967295 c2 m3) (el_862 nd c_x9 c_x15 c_z0 1 c2 m3)) nd 0 m) (false)) m
theorem sl_832 {pl sg : Nat → Nat → Int32} (H : zq_H pl sg) {post : Int32 → St0 → Prop} (hp : post 1 ()) {mc ms kc ks : Nat} {x5 x8 x9 x15 x16 x19 z0 : Int32} {nd c_x9 c_x15 c_z0 : Nat} (hN : zl_N x5 nd) (hE : zl_E pl sg x8 x16 x19 c_x15) (h_x9 : x9 = nI c_x9) (h_x15 : x15 = nI c_x15) (h_z0 : z0 = nI c_z0) {fm0_first fm0_waiting fm0_holder fm0_wrong : Int32} {am7551 am7552 am7553 am7554 am7555 am7556 am7557 am7558 am7559 am75510 am75511 am75512 am75513 am75514 am75515 am75516 am75517 : Nat → Int32} {m : Nat} (hR : zq_R pl sg m (fm0_first, fm0_waiting, fm0_holder, fm0_wrong, am7551, am7552, am7553, am7554, am7555, am7556, am7557, am7558, am7559, am75510, am75511, am75512, am75513, am75514, am75515, am75516, am75517)) (h : el_832 nd c_x9 c_x15 c_z0 m = true) : wL_lawOf_832 post mc ms x5 x8 x9 x15 x16 x19 z0 kc ks fm0_first fm0_waiting fm0_holder fm0_wrong am7551 am7552 am7553 am7554 am7555 am7556 am7557 am7558 am7559 am75510 am75511 am75512 am75513 am75514 am75515 am75516 am75517 := by
  unfold wL_lawOf_832
  unfold el_832 at h
  refine sz_leader H ?_ hR h
  intro r_638 c1 hc1 h
  refine zq_br (zq_ceq hc1 h_z0) h (fun h => ?_) (fun h => ?_)
  · refine sl_member H ?_ hN (rfl : (0 : Int32) = nI 0) hR h
    intro r_640 c2 u m3 hc2 hR h
    obtain ⟨fm0_first_641, fm0_waiting_642, fm0_holder_643, fm0_wrong_644, am8491_647, am8492_650, am8493_653, am8494_656, am8495_659, am8496_662, am8497_665, am8498_668, am8499_671, am84910_674, am84911_677, am84912_680, am84913_683, am84914_686, am84915_689, am84916_692, am84917_695⟩ := u
    refine zq_br (zq_ceq h_x9 (rfl : (0 : Int32) = nI 0)) h (fun h => ?_) (fun h => ?_)
    · exact sl_862 H hp hN hE h_x9 h_x15 h_z0 zq_m1 hc2 hR h
    · exact sl_862 H hp hN hE h_x9 h_x15 h_z0 (rfl : (1 : Int32) = nI 1) hc2 hR h
  · exact zq_ff h
noncomputable def el_810 (nd : Nat) (c_x9 : Nat) (c_x14 : Nat) (c_x15 : Nat) (c_z0 : Nat) (m : Nat) : Bool := zq_bc (zq_eq c_z0 0) (el_832 nd c_x9 c_x15 c_x14 m) (zq_bc (zq_eq c_x14 0) (el_832 nd c_x9 c_x15 1 m) (el_832 nd c_x9 c_x15 0 m))
theorem sl_810 {pl sg : Nat → Nat → Int32} (H : zq_H pl sg) {post : Int32 → St0 → Prop} (hp : post 1 ()) {mc ms kc ks : Nat} {x5 x8 x9 x14 x15 x16 x19 z0 : Int32} {nd c_x9 c_x14 c_x15 c_z0 : Nat} (hN : zl_N x5 nd) (hE : zl_E pl sg x8 x16 x19 c_x15) (h_x9 : x9 = nI c_x9) (h_x14 : x14 = nI c_x14) (h_x15 : x15 = nI c_x15) (h_z0 : z0 = nI c_z0) {fm0_first fm0_waiting fm0_holder fm0_wrong : Int32} {am7551 am7552 am7553 am7554 am7555 am7556 am7557 am7558 am7559 am75510 am75511 am75512 am75513 am75514 am75515 am75516 am75517 : Nat → Int32} {m : Nat} (hR : zq_R pl sg m (fm0_first, fm0_waiting, fm0_holder, fm0_wrong, am7551, am7552, am7553, am7554, am7555, am7556, am7557, am7558, am7559, am75510, am75511, am75512, am75513, am75514, am75515, am75516, am75517)) (h : el_810 nd c_x9 c_x14 c_x15 c_z0 m = true) : wL_lawOf_810 post mc ms x5 x8 x9 x14 x15 x16 x19 z0 kc ks fm0_first fm0_waiting fm0_holder fm0_wrong am7551 am7552 am7553 am7554 am7555 am7556 am7557 am7558 am7559 am75510 am75511 am75512 am75513 am75514 am75515 am75516 am75517 := by
  unfold wL_lawOf_810
  unfold el_810 at h
  refine zq_br (zq_ceq h_z0 (rfl : (0 : Int32) = nI 0)) h (fun h => ?_) (fun h => ?_)
  · exact sl_832 H hp hN hE h_x9 h_x15 h_x14 hR h
  · refine zq_br (zq_ceq h_x14 (rfl : (0 : Int32) = nI 0)) h (fun h => ?_) (fun h => ?_)
    · exact sl_832 H hp hN hE h_x9 h_x15 (rfl : (1 : Int32) = nI 1) hR h
    · exact sl_832 H hp hN hE h_x9 h_x15 (rfl : (0 : Int32) = nI 0) hR h
noncomputable def el_809 (nd : Nat) (c_x9 : Nat) (c_x14 : Nat) (c_x15 : Nat) (m : Nat) : Bool := el_810 nd c_x9 c_x14 c_x15 0 m
theorem sl_809 {pl sg : Nat → Nat → Int32} (H : zq_H pl sg) {post : Int32 → St0 → Prop} (hp : post 1 ()) {mc ms kc ks : Nat} {x5 x8 x9 x14 x15 x16 x19 : Int32} {nd c_x9 c_x14 c_x15 : Nat} (hN : zl_N x5 nd) (hE : zl_E pl sg x8 x16 x19 c_x15) (h_x9 : x9 = nI c_x9) (h_x14 : x14 = nI c_x14) (h_x15 : x15 = nI c_x15) {fm0_first fm0_waiting fm0_holder fm0_wrong : Int32} {am7551 am7552 am7553 am7554 am7555 am7556 am7557 am7558 am7559 am75510 am75511 am75512 am75513 am75514 am75515 am75516 am75517 : Nat → Int32} {m : Nat} (hR : zq_R pl sg m (fm0_first, fm0_waiting, fm0_holder, fm0_wrong, am7551, am7552, am7553, am7554, am7555, am7556, am7557, am7558, am7559, am75510, am75511, am75512, am75513, am75514, am75515, am75516, am75517)) (h : el_809 nd c_x9 c_x14 c_x15 m = true) : wL_lawOf_809 post mc ms x5 x8 x9 x14 x15 x16 x19 kc ks fm0_first fm0_waiting fm0_holder fm0_wrong am7551 am7552 am7553 am7554 am7555 am7556 am7557 am7558 am7559 am75510 am75511 am75512 am75513 am75514 am75515 am75516 am75517 := by
  unfold wL_lawOf_809
  unfold el_809 at h
  exact sl_810 H hp hN hE h_x9 h_x14 h_x15 (rfl : (0 : Int32) = nI 0) hR h
noncomputable def el_788 (nd : Nat) (c_x9 : Nat) (c_x14 : Nat) (c_x15 : Nat) (c_z0 : Nat) (c_z1 : Nat) (m : Nat) : Bool := zq_bc (zq_eq c_z1 c_z0) (zq_bc (zq_eq c_x9 0) (el_809 nd c_x9 c_x14 c_x15 m) (zq_bc (zq_bl nd 5) (zq_bc (zq_eq nd c_x14) (el_810 nd c_x9 c_x14 c_x15 1 m) (el_809 nd c_x9 c_x14 c_x15 m)) false)) (false)
theorem sl_788 {pl sg : Nat → Nat → Int32} (H : zq_H pl sg) {post : Int32 → St0 → Prop} (hp : post 1 ()) {mc ms kc ks : Nat} {x5 x8 x9 x14 x15 x16 x19 z0 z1 : Int32} {nd c_x9 c_x14 c_x15 c_z0 c_z1 : Nat} (hN : zl_N x5 nd) (hE : zl_E pl sg x8 x16 x19 c_x15) (h_x9 : x9 = nI c_x9) (h_x14 : x14 = nI c_x14) (h_x15 : x15 = nI c_x15) (h_z0 : z0 = nI c_z0) (h_z1 : z1 = nI c_z1) {fm0_first fm0_waiting fm0_holder fm0_wrong : Int32} {am7551 am7552 am7553 am7554 am7555 am7556 am7557 am7558 am7559 am75510 am75511 am75512 am75513 am75514 am75515 am75516 am75517 : Nat → Int32} {m : Nat} (hR : zq_R pl sg m (fm0_first, fm0_waiting, fm0_holder, fm0_wrong, am7551, am7552, am7553, am7554, am7555, am7556, am7557, am7558, am7559, am75510, am75511, am75512, am75513, am75514, am75515, am75516, am75517)) (h : el_788 nd c_x9 c_x14 c_x15 c_z0 c_z1 m = true) : wL_lawOf_788 post mc ms x5 x8 x9 x14 x15 x16 x19 z0 z1 kc ks fm0_first fm0_waiting fm0_holder fm0_wrong am7551 am7552 am7553 am7554 am7555 am7556 am7557 am7558 am7559 am75510 am75511 am75512 am75513 am75514 am75515 am75516 am75517 := by
  unfold wL_lawOf_788
  unfold el_788 at h
  refine zq_br (zq_ceq h_z1 h_z0) h (fun h => ?_) (fun h => ?_)
  · refine zq_br (zq_ceq h_x9 (rfl : (0 : Int32) = nI 0)) h (fun h => ?_) (fun h => ?_)
    · exact sl_809 H hp hN hE h_x9 h_x14 h_x15 hR h
    · obtain ⟨q1, h⟩ := zq_bc_s h
      refine zq_br (zq_ceq (zl_n hN q1) h_x14) h (fun h => ?_) (fun h => ?_)
      · exact sl_810 H hp hN hE h_x9 h_x14 h_x15 (rfl : (1 : Int32) = nI 1) hR h
      · exact sl_809 H hp hN hE h_x9 h_x14 h_x15 hR h
  · exact zq_ff h
noncomputable def el_768 (nd : Nat) (c_x9 : Nat) (c_x14 : Nat) (c_x15 : Nat) (c_z0 : Nat) (c_z1 : Nat) (m : Nat) : Bool := zq_bc (zq_eq c_z1 c_z0) (zl_isUp (fun c1 => zq_bc (zq_eq c_x9 0) (el_788 nd c_x9 c_x14 c_x15 4294967295 c1 m) (el_788 nd c_x9 c_x14 c_x15 0 c1 m)) nd m) (false)
theorem sl_768 {pl sg : Nat → Nat → Int32} (H : zq_H pl sg) {post : Int32 → St0 → Prop} (hp : post 1 ()) {mc ms kc ks : Nat} {x5 x8 x9 x14 x15 x16 x19 z0 z1 : Int32} {nd c_x9 c_x14 c_x15 c_z0 c_z1 : Nat} (hN : zl_N x5 nd) (hE : zl_E pl sg x8 x16 x19 c_x15) (h_x9 : x9 = nI c_x9) (h_x14 : x14 = nI c_x14) (h_x15 : x15 = nI c_x15) (h_z0 : z0 = nI c_z0) (h_z1 : z1 = nI c_z1) {fm0_first fm0_waiting fm0_holder fm0_wrong : Int32} {am7551 am7552 am7553 am7554 am7555 am7556 am7557 am7558 am7559 am75510 am75511 am75512 am75513 am75514 am75515 am75516 am75517 : Nat → Int32} {m : Nat} (hR : zq_R pl sg m (fm0_first, fm0_waiting, fm0_holder, fm0_wrong, am7551, am7552, am7553, am7554, am7555, am7556, am7557, am7558, am7559, am75510, am75511, am75512, am75513, am75514, am75515, am75516, am75517)) (h : el_768 nd c_x9 c_x14 c_x15 c_z0 c_z1 m = true) : wL_lawOf_768 post mc ms x5 x8 x9 x14 x15 x16 x19 z0 z1 kc ks fm0_first fm0_waiting fm0_holder fm0_wrong am7551 am7552 am7553 am7554 am7555 am7556 am7557 am7558 am7559 am75510 am75511 am75512 am75513 am75514 am75515 am75516 am75517 := by
  unfold wL_lawOf_768
  unfold el_768 at h
  refine zq_br (zq_ceq h_z1 h_z0) h (fun h => ?_) (fun h => ?_)
  · refine sl_isUp H ?_ hN hR h
    intro r_633 c1 hc1 h
    refine zq_br (zq_ceq h_x9 (rfl : (0 : Int32) = nI 0)) h (fun h => ?_) (fun h => ?_)
    · exact sl_788 H hp hN hE h_x9 h_x14 h_x15 zq_m1 hc1 hR h
    · exact sl_788 H hp hN hE h_x9 h_x14 h_x15 (rfl : (0 : Int32) = nI 0) hc1 hR h
  · exact zq_ff h
noncomputable def el_748 (nd : Nat) (c_x9 : Nat) (c_x14 : Nat) (c_x15 : Nat) (c_z0 : Nat) (c_z1 : Nat) (m : Nat) : Bool := zq_bc (zq_eq c_z1 c_z0) (zl_stop (fun c1 m2 => zq_bc (zq_eq c_x9 0) (el_768 nd c_x9 c_x14 c_x15 4294967295 c1 m2) (el_768 nd c_x9 c_x14 c_x15 0 c1 m2)) nd m) (false)
theorem sl_748 {pl sg : Nat → Nat → Int32} (H : zq_H pl sg) {post : Int32 → St0 → Prop} (hp : post 1 ()) {mc ms kc ks : Nat} {x5 x8 x9 x14 x15 x16 x19 z0 z1 : Int32} {nd c_x9 c_x14 c_x15 c_z0 c_z1 : Nat} (hN : zl_N x5 nd) (hE : zl_E pl sg x8 x16 x19 c_x15) (h_x9 : x9 = nI c_x9) (h_x14 : x14 = nI c_x14) (h_x15 : x15 = nI c_x15) (h_z0 : z0 = nI c_z0) (h_z1 : z1 = nI c_z1) {fm0_first fm0_waiting fm0_holder fm0_wrong : Int32} {am7351 am7352 am7353 am7354 am7355 am7356 am7357 am7358 am7359 am73510 am73511 am73512 am73513 am73514 am73515 am73516 am73517 : Nat → Int32} {m : Nat} (hR : zq_R pl sg m (fm0_first, fm0_waiting, fm0_holder, fm0_wrong, am7351, am7352, am7353, am7354, am7355, am7356, am7357, am7358, am7359, am73510, am73511, am73512, am73513, am73514, am73515, am73516, am73517)) (h : el_748 nd c_x9 c_x14 c_x15 c_z0 c_z1 m = true) : wL_lawOf_748 post mc ms x5 x8 x9 x14 x15 x16 x19 z0 z1 kc ks fm0_first fm0_waiting fm0_holder fm0_wrong am7351 am7352 am7353 am7354 am7355 am7356 am7357 am7358 am7359 am73510 am73511 am73512 am73513 am73514 am73515 am73516 am73517 := by
  unfold wL_lawOf_748
  unfold el_748 at h
  refine zq_br (zq_ceq h_z1 h_z0) h (fun h => ?_) (fun h => ?_)
  · refine sl_stop H ?_ hN hR h
    intro r_575 c1 u m2 hc1 hR h
    obtain ⟨fm0_first_576, fm0_waiting_577, fm0_holder_578, fm0_wrong_579, am7551_582, am7552_585, am7553_588, am7554_591, am7555_594, am7556_597, am7557_600, am7558_603, am7559_606, am75510_609, am75511_612, am75512_615, am75513_618, am75514_621, am75515_624, am75516_627, am75517_630⟩ := u
    refine zq_br (zq_ceq h_x9 (rfl : (0 : Int32) = nI 0)) h (fun h => ?_) (fun h => ?_)
    · exact sl_768 H hp hN hE h_x9 h_x14 h_x15 zq_m1 hc1 hR h
    · exact sl_768 H hp hN hE h_x9 h_x14 h_x15 (rfl : (0 : Int32) = nI 0) hc1 hR h
  · exact zq_ff h
noncomputable def el_731 (nd : Nat) (c_x9 : Nat) (c_x14 : Nat) (c_x15 : Nat) (m : Nat) : Bool := zl_stop (fun c1 m2 => zq_bc (zq_eq c_x9 0) (el_748 nd c_x9 c_x14 c_x15 4294967295 c1 m2) (el_748 nd c_x9 c_x14 c_x15 1 c1 m2)) nd m
theorem sl_731 {pl sg : Nat → Nat → Int32} (H : zq_H pl sg) {post : Int32 → St0 → Prop} (hp : post 1 ()) {mc ms kc ks : Nat} {x5 x8 x9 x14 x15 x16 x19 : Int32} {nd c_x9 c_x14 c_x15 : Nat} (hN : zl_N x5 nd) (hE : zl_E pl sg x8 x16 x19 c_x15) (h_x9 : x9 = nI c_x9) (h_x14 : x14 = nI c_x14) (h_x15 : x15 = nI c_x15) {fm0_first fm0_waiting fm0_holder fm0_wrong : Int32} {am5351 am5352 am5353 am5354 am5355 am5356 am5357 am5358 am5359 am53510 am53511 am53512 am53513 am53514 am53515 am53516 am53517 : Nat → Int32} {m : Nat} (hR : zq_R pl sg m (fm0_first, fm0_waiting, fm0_holder, fm0_wrong, am5351, am5352, am5353, am5354, am5355, am5356, am5357, am5358, am5359, am53510, am53511, am53512, am53513, am53514, am53515, am53516, am53517)) (h : el_731 nd c_x9 c_x14 c_x15 m = true) : wL_lawOf_731 post mc ms x5 x8 x9 x14 x15 x16 x19 kc ks fm0_first fm0_waiting fm0_holder fm0_wrong am5351 am5352 am5353 am5354 am5355 am5356 am5357 am5358 am5359 am53510 am53511 am53512 am53513 am53514 am53515 am53516 am53517 := by
  unfold wL_lawOf_731
  unfold el_731 at h
  refine sl_stop H ?_ hN hR h
  intro r_517 c1 u m2 hc1 hR h
  obtain ⟨fm0_first_518, fm0_waiting_519, fm0_holder_520, fm0_wrong_521, am7351_524, am7352_527, am7353_530, am7354_533, am7355_536, am7356_539, am7357_542, am7358_545, am7359_548, am73510_551, am73511_554, am73512_557, am73513_560, am73514_563, am73515_566, am73516_569, am73517_572⟩ := u
  refine zq_br (zq_ceq h_x9 (rfl : (0 : Int32) = nI 0)) h (fun h => ?_) (fun h => ?_)
  · exact sl_748 H hp hN hE h_x9 h_x14 h_x15 zq_m1 hc1 hR h
  · exact sl_748 H hp hN hE h_x9 h_x14 h_x15 (rfl : (1 : Int32) = nI 1) hc1 hR h
end
section
noncomputable def el_714h (nd c_x9 c_x14 c_x15 m : Nat) : Bool := zl_getx c_x15 (el_731 nd c_x9 c_x14 c_x15 m) m
theorem sl_714h {pl sg : Nat → Nat → Int32} (H : zq_H pl sg) {post : Int32 → St0 → Prop} (hp : post 1 ()) {mc ms kc ks : Nat} {x5 x8 x9 x14 x15 x16 x19 z0 z1 : Int32} {nd c_x9 c_x14 c_x15 : Nat} (hN : zl_N x5 nd) (hE : zl_E pl sg x8 x16 x19 c_x15) (h_x9 : x9 = nI c_x9) (h_x14 : x14 = nI c_x14) (h_x15 : x15 = nI c_x15) (hz : z1 = z0) {fm0_first fm0_waiting fm0_holder fm0_wrong : Int32} {am6991 am6992 am6993 am6994 am6995 am6996 am6997 am6998 am6999 am69910 am69911 am69912 am69913 am69914 am69915 am69916 am69917 : Nat → Int32} {m : Nat} (hR : zq_R pl sg m (fm0_first, fm0_waiting, fm0_holder, fm0_wrong, am6991, am6992, am6993, am6994, am6995, am6996, am6997, am6998, am6999, am69910, am69911, am69912, am69913, am69914, am69915, am69916, am69917)) (h : el_714h nd c_x9 c_x14 c_x15 m = true) : wL_lawOf_714 post mc ms x5 x8 x9 x14 x15 x16 x19 z0 z1 kc ks fm0_first fm0_waiting fm0_holder fm0_wrong am6991 am6992 am6993 am6994 am6995 am6996 am6997 am6998 am6999 am69910 am69911 am69912 am69913 am69914 am69915 am69916 am69917 := by
  unfold wL_lawOf_714
  unfold el_714h at h
  refine br_t hz ?_
  refine sl_getx H (zl_E12 hE) hR h (fun h => br_t rfl ?_)
  exact sl_731 H hp hN hE h_x9 h_x14 h_x15 hR h
/-- what is known behind a good submit -/
def zl_C (pl sg : Nat → Nat → Int32) (x7 x8 x16 x17 x19 : Int32) : Prop := ∃ kd s y, kd < 3 ∧ s < 4 ∧ y < 6 ∧ x7 = nI (24 * kd + 6 * s + y) ∧ x16 = nI y ∧ x17 = nI s ∧ sg 1 y = x19 ∧ ¬ x8 < 1 ∧ x8 ≤ x8 + 1 ∧ sg 1 (6 + s) = x8 ∧ sg 1 (10 + s) = 0 ∧ (sg 1 6 = x8 ∨ sg 1 6 = 0) ∧ zl_p2 pl y (x8 + 1)
noncomputable def el_603 (nd c_x9 c_x14 c_x15 m : Nat) : Bool :=
  zq_bc (Nat.beq c_x15 1) (zl_sid 1 (zl_lead 1 (ez_same (fun r => zq_bc (zq_eq r 1) (el_714h nd c_x9 c_x14 1 m) false) 0 4 m) m) m) (zq_bc (Nat.beq c_x15 0) (el_731 nd c_x9 c_x14 0 m) false)
theorem sl_603 {pl sg : Nat → Nat → Int32} (H : zq_H pl sg) {post : Int32 → St0 → Prop} (hp : post 1 ()) {mc ms kc ks : Nat} {x5 x7 x8 x9 x14 x15 x16 x17 z0 : Int32} {nd c_x9 c_x14 c_x15 : Nat} (hN : zl_N x5 nd) (hC : (c_x15 = 0 ∧ zl_p2 pl 0 5) ∨ (c_x15 = 1 ∧ zl_C pl sg x7 x8 x16 x17 z0)) (h_x9 : x9 = nI c_x9) (h_x14 : x14 = nI c_x14) (h_x15 : x15 = nI c_x15) {fm0_first fm0_waiting fm0_holder fm0_wrong : Int32} {am5351 am5352 am5353 am5354 am5355 am5356 am5357 am5358 am5359 am53510 am53511 am53512 am53513 am53514 am53515 am53516 am53517 : Nat → Int32} {m : Nat} (hR : zq_R pl sg m (fm0_first, fm0_waiting, fm0_holder, fm0_wrong, am5351, am5352, am5353, am5354, am5355, am5356, am5357, am5358, am5359, am53510, am53511, am53512, am53513, am53514, am53515, am53516, am53517)) (h : el_603 nd c_x9 c_x14 c_x15 m = true) : wL_lawOf_603 post mc ms x5 x7 x8 x9 x14 x15 x16 x17 z0 kc ks fm0_first fm0_waiting fm0_holder fm0_wrong am5351 am5352 am5353 am5354 am5355 am5356 am5357 am5358 am5359 am53510 am53511 am53512 am53513 am53514 am53515 am53516 am53517 := by
  unfold wL_lawOf_603
  unfold el_603 at h
  rcases hC with ⟨e, h2⟩ | ⟨e, kd, s, y, hkd, hs, hy, e7, e16, e17, e19, hn1, hle, e6s, e10s, e6, h2⟩
  · subst e
    refine br_t (by rw [h_x15]; rfl) ?_
    rcases zq_bc_b h with ⟨q, g⟩ | ⟨_, g⟩
    · exact absurd q (by decide)
    · obtain ⟨_, g⟩ := zq_bc_s g
      exact sl_731 H hp hN (Or.inl ⟨rfl, h2⟩) h_x9 h_x14 h_x15 hR g
  · subst e
    have hE : zl_E pl sg x8 x16 z0 1 := Or.inr ⟨rfl, y, hy, e16, e19, hn1, hle, e6, h2⟩
    have n15 : ¬ x15 = 0 := by
      rw [h_x15]
      decide
    rcases zq_bc_b h with ⟨_, g⟩ | ⟨q, _⟩
    rotate_left
    · exact absurd q (by decide)
    obtain ⟨hsd, hX⟩ := zl_sid_s g
    have h1 : (1 : Int32) ≤ x8 := by
      rw [Int32.lt_iff_toInt_lt] at hn1
      rw [Int32.le_iff_toInt_le]
      omega
    have hid : 6 + (24 * kd + 6 * s + y) / 6 % 4 = 6 + s := by omega
    refine br_f n15 ?_
    refine zl_get H e16 hy hR hX (fun hS => br_t e19 ?_)
    refine zl_local_g (n := 3) H rfl (by decide) e16 hy hR ?_
    rw [hsd 3 (by decide)]
    refine br_t e19 ?_
    refine zl_lastNumber_g (n := 4) H rfl (by decide) e17 hs hR ?_
    rw [hsd 4 (by decide)]
    refine br_t e6s ?_
    refine zl_answer_g (n := 2) H rfl (by decide) e17 hs hR ?_
    rw [hsd 2 (by decide)]
    refine br_t e10s ?_
    refine sz_same H ?_ (rfl : (0 : Int32) = nI 0) (rfl : (4 : Int32) = nI 4) hR hS
    intro r c hr h
    obtain ⟨q, h⟩ := zq_bc_s h
    refine br_t ((zq_ceq hr (rfl : (1 : Int32) = nI 1)).mpr q) ?_
    unfold wpX_submit
    refine zl_stand (cd := 24 * kd + 6 * s + y) H e7 (by omega) h1 hR hX (fun _ => ?_)
    rw [hid, e6s]
    refine br_t (Int32.le_refl x8) (br_t rfl (br_f (by decide) (br_t rfl ?_)))
    by_cases hx1 : x8 = 1
    · refine zl_standb (Or.inr (Or.inr (by rw [hx1]; decide))) (br_f (by decide) (br_t hx1 ?_))
      exact sl_714h H hp hN hE h_x9 h_x14 h_x15 rfl hR h
    · have t1 : (1 : Int32).toInt = 1 := by decide
      have t2 : (x8 - 1).toInt = x8.toInt - 1 := by
        rw [Int32.le_iff_toInt_le, t1] at h1
        have b := Int32.toInt_lt x8
        rw [Int32.toInt_sub, t1]
        have e : (2 : Nat) ^ 32 = 4294967296 := by decide
        rw [Int.bmod_def]
        omega
      have t3 : x8.toInt ≠ 1 := by
        intro z
        apply hx1
        rw [← Int32.toInt_inj, t1]
        exact z
      have g1 : (1 : Int32) ≤ x8 - 1 := by
        rw [Int32.le_iff_toInt_le, t1] at h1 ⊢
        omega
      have g2 : ¬ x8 ≤ x8 - 1 := by
        rw [Int32.le_iff_toInt_le]
        omega
      refine zl_stand (cd := 24 * kd + 6 * s + y) H e7 (by omega) g1 hR hX (fun _ => ?_)
      rw [hid, e6s]
      refine br_f g2 (br_f (by decide) (br_f hx1 ?_))
      exact sl_714h H hp hN hE h_x9 h_x14 h_x15 rfl hR h
noncomputable def el_530t (nd c_x9 c_x14 c_x15 m : Nat) : Bool := el_603 nd c_x9 c_x14 c_x15 m
theorem sl_530t {pl sg : Nat → Nat → Int32} (H : zq_H pl sg) {post : Int32 → St0 → Prop} (hp : post 1 ()) {mc ms kc ks : Nat} {x0 x3 x5 x7 x8 x9 x14 x15 : Int32} {nd c_x9 c_x14 c_x15 : Nat} (hN : zl_N x5 nd) (hD : zl_D pl sg x0 x3 x7 x8 c_x15) (h_x9 : x9 = nI c_x9) (h_x14 : x14 = nI c_x14) (h_x15 : x15 = nI c_x15) {fm0_first_452 fm0_waiting_453 fm0_holder_454 fm0_wrong_455 : Int32} {am5351_458 am5352_461 am5353_464 am5354_467 am5355_470 am5356_473 am5357_476 am5358_479 am5359_482 am53510_485 am53511_488 am53512_491 am53513_494 am53514_497 am53515_500 am53516_503 am53517_506 : Nat → Int32} {m : Nat} (hR : zq_R pl sg m (fm0_first_452, fm0_waiting_453, fm0_holder_454, fm0_wrong_455, am5351_458, am5352_461, am5353_464, am5354_467, am5355_470, am5356_473, am5357_476, am5358_479, am5359_482, am53510_485, am53511_488, am53512_491, am53513_494, am53514_497, am53515_500, am53516_503, am53517_506)) (h : el_530t nd c_x9 c_x14 c_x15 m = true) : ¬ (6 : Int32) = 0 ∧ ∀ x16_509 : Int32, x16_509 = (x7 - ((x7 / 6) * 6)) → ((x15 = 0 → (wL_lawOf_566 post mc ms x0 x3 x5 x7 x8 x9 x14 x15 x16_509 0 kc ks fm0_first_452 fm0_waiting_453 fm0_holder_454 fm0_wrong_455 am5351_458 am5352_461 am5353_464 am5354_467 am5355_470 am5356_473 am5357_476 am5358_479 am5359_482 am53510_485 am53511_488 am53512_491 am53513_494 am53514_497 am53515_500 am53516_503 am53517_506)) ∧ (¬ x15 = 0 → (¬ (6 : Int32) = 0 ∧ (¬ (4 : Int32) = 0 ∧ (wL_lawOf_566 post mc ms x0 x3 x5 x7 x8 x9 x14 x15 x16_509 ((x7 / 6) - (((x7 / 6) / 4) * 4)) kc ks fm0_first_452 fm0_waiting_453 fm0_holder_454 fm0_wrong_455 am5351_458 am5352_461 am5353_464 am5354_467 am5355_470 am5356_473 am5357_476 am5358_479 am5359_482 am53510_485 am53511_488 am53512_491 am53513_494 am53514_497 am53515_500 am53516_503 am53517_506))))) := by
  unfold el_530t at h
  refine ⟨by decide, ?_⟩
  intro x16 e16
  rcases hD with ⟨e, _, h2⟩ | ⟨e, kd, s, y, hkd, hs, hy, e7, hn1, hle, p1, p2, p3, p4, p5, p6, h2, hsg⟩
  · subst e
    have z15 : x15 = 0 := by
      rw [h_x15]
      rfl
    refine br_t z15 ?_
    unfold wL_lawOf_566
    refine ⟨by decide, ?_⟩
    intro x18 _
    refine br_t z15 ?_
    exact sl_603 H hp hN (Or.inl ⟨rfl, h2⟩) h_x9 h_x14 h_x15 hR h
  · subst e
    have n15 : ¬ x15 = 0 := by
      rw [h_x15]
      decide
    have e16 : x16 = nI y := by
      rw [e16, e7]
      have e := pk_rem (a := 24 * kd + 6 * s + y) (d := 6) (by omega) (by decide) (by decide)
      rw [show (24 * kd + 6 * s + y) % 6 = y by omega] at e
      exact e
    have e6 : x7 / 6 = nI (4 * kd + s) := by
      rw [e7]
      have e := pk_div (a := 24 * kd + 6 * s + y) (d := 6) (by omega) (by decide) (by decide)
      rw [show (24 * kd + 6 * s + y) / 6 = 4 * kd + s by omega] at e
      exact e
    have e17 : x7 / 6 - x7 / 6 / 4 * 4 = nI s := by
      rw [e6]
      have e := pk_rem (a := 4 * kd + s) (d := 4) (by omega) (by decide) (by decide)
      rw [show (4 * kd + s) % 4 = s by omega] at e
      exact e
    have e24 : x7 / 24 = nI kd := by
      rw [e7]
      have e := pk_div (a := 24 * kd + 6 * s + y) (d := 24) (by omega) (by decide) (by decide)
      rw [show (24 * kd + 6 * s + y) / 24 = kd by omega] at e
      exact e
    have s6 : sg 1 (6 + s) = x8 := by
      rw [hsg (6 + s) (by omega), if_neg (by omega), if_pos rfl]
    have s10 : sg 1 (10 + s) = 0 := by
      rw [hsg (10 + s) (by omega), if_pos rfl]
    have s60 : sg 1 6 = x8 ∨ sg 1 6 = 0 := by
      rw [hsg 6 (by omega), if_neg (by omega)]
      by_cases z : 6 = 6 + s
      · rw [if_pos z]
        exact Or.inl rfl
      · rw [if_neg z, if_neg (by omega)]
        exact Or.inr rfl
    have sy : sg 1 y = (if kd = 0 then x0 else if kd = 1 then 0 + x0 else if (0 : Int32) = x0 then x3 else 0) := by
      rw [hsg y (by omega), if_neg (by omega), if_neg (by omega), if_pos rfl]
    have fin : ∀ d : Int32, sg 1 y = d → zl_C pl sg x7 x8 x16 (x7 / 6 - x7 / 6 / 4 * 4) d := fun d hd => ⟨kd, s, y, hkd, hs, hy, e7, e16, e17, hd, hn1, hle, s6, s10, s60, h2⟩
    refine br_f n15 ⟨by decide, by decide, ?_⟩
    unfold wL_lawOf_566
    refine ⟨by decide, ?_⟩
    intro x18 e18
    refine br_f n15 ?_
    rw [e18, e24]
    have hkc : kd = 0 ∨ kd = 1 ∨ kd = 2 := by omega
    rcases hkc with e | e | e
    · refine br_f (by rw [e]; decide) ?_
      refine sl_603 H hp hN (Or.inr ⟨rfl, fin _ ?_⟩) h_x9 h_x14 h_x15 hR h
      rw [sy, if_pos e]
    · refine br_f (by rw [e]; decide) ?_
      refine sl_603 H hp hN (Or.inr ⟨rfl, fin _ ?_⟩) h_x9 h_x14 h_x15 hR h
      rw [sy, if_neg (by omega), if_pos e, Int32.zero_add]
    · refine br_t (by rw [e]; decide) (br_c (fun g => ?_) (fun g => ?_))
      · refine sl_603 H hp hN (Or.inr ⟨rfl, fin _ ?_⟩) h_x9 h_x14 h_x15 hR h
        rw [sy, if_neg (by omega), if_neg (by omega), if_pos g.symm]
      · refine sl_603 H hp hN (Or.inr ⟨rfl, fin _ ?_⟩) h_x9 h_x14 h_x15 hR h
        rw [sy, if_neg (by omega), if_neg (by omega), if_neg (fun z => g z.symm)]
noncomputable def el_530 (nd : Nat) (c_x9 : Nat) (c_x14 : Nat) (c_x15 : Nat) (c_z0 : Nat) (c_z1 : Nat) (m : Nat) : Bool := zq_bc (zq_eq c_z1 c_z0) (ez_faults (fun c1 m2 => zq_bc (zq_eq c1 0) (el_530t nd c_x9 c_x14 c_x15 m2) (false)) m) (false)
theorem sl_530 {pl sg : Nat → Nat → Int32} (H : zq_H pl sg) {post : Int32 → St0 → Prop} (hp : post 1 ()) {mc ms kc ks : Nat} {x0 x3 x5 x7 x8 x9 x14 x15 z0 z1 : Int32} {nd c_x9 c_x14 c_x15 c_z0 c_z1 : Nat} (hN : zl_N x5 nd) (hD : zl_D pl sg x0 x3 x7 x8 c_x15) (h_x9 : x9 = nI c_x9) (h_x14 : x14 = nI c_x14) (h_x15 : x15 = nI c_x15) (h_z0 : z0 = nI c_z0) (h_z1 : z1 = nI c_z1) {fm0_first fm0_waiting fm0_holder fm0_wrong : Int32} {am5171 am5172 am5173 am5174 am5175 am5176 am5177 am5178 am5179 am51710 am51711 am51712 am51713 am51714 am51715 am51716 am51717 : Nat → Int32} {m : Nat} (hR : zq_R pl sg m (fm0_first, fm0_waiting, fm0_holder, fm0_wrong, am5171, am5172, am5173, am5174, am5175, am5176, am5177, am5178, am5179, am51710, am51711, am51712, am51713, am51714, am51715, am51716, am51717)) (h : el_530 nd c_x9 c_x14 c_x15 c_z0 c_z1 m = true) : wL_lawOf_530 post mc ms x0 x3 x5 x7 x8 x9 x14 x15 z0 z1 kc ks fm0_first fm0_waiting fm0_holder fm0_wrong am5171 am5172 am5173 am5174 am5175 am5176 am5177 am5178 am5179 am51710 am51711 am51712 am51713 am51714 am51715 am51716 am51717 := by
  unfold wL_lawOf_530
  unfold el_530 at h
  refine zq_br (zq_ceq h_z1 h_z0) h (fun h => ?_) (fun h => ?_)
  · refine sz_faults H ?_ hR h
    intro r_451 c1 u m2 hc1 hR h
    obtain ⟨fm0_first_452, fm0_waiting_453, fm0_holder_454, fm0_wrong_455, am5351_458, am5352_461, am5353_464, am5354_467, am5355_470, am5356_473, am5357_476, am5358_479, am5359_482, am53510_485, am53511_488, am53512_491, am53513_494, am53514_497, am53515_500, am53516_503, am53517_506⟩ := u
    refine zq_br (zq_ceq hc1 (rfl : (0 : Int32) = nI 0)) h (fun h => ?_) (fun h => ?_)
    · exact sl_530t H hp hN hD h_x9 h_x14 h_x15 hR h
    · exact zq_ff h
  · exact zq_ff h
noncomputable def el_507 (nd c_x9 c_x14 c_z0 m : Nat) : Bool :=
  zq_bc (Nat.beq c_z0 1) (zl_lead 0 (ez_submT (fun c m2 => el_530 nd c_x9 c_x14 1 0 c m2) m) m) (zq_bc (Nat.beq c_z0 0) (el_530 nd c_x9 c_x14 0 4294967295 4294967295 m) false)
theorem sl_507 {pl sg : Nat → Nat → Int32} (H : zq_H pl sg) {post : Int32 → St0 → Prop} (hp : post 1 ()) {mc ms kc ks : Nat} {x0 x3 x5 x7 x8 x9 x14 z0 : Int32} {nd c_x9 c_x14 c_z0 : Nat} (hN : zl_N x5 nd) (hD : zl_D pl sg x0 x3 x7 x8 c_z0) (h_x9 : x9 = nI c_x9) (h_x14 : x14 = nI c_x14) (h_z0 : z0 = nI c_z0) {fm0_first fm0_waiting fm0_holder fm0_wrong : Int32} {am4461 am4462 am4463 am4464 am4465 am4466 am4467 am4468 am4469 am44610 am44611 am44612 am44613 am44614 am44615 am44616 am44617 : Nat → Int32} {m : Nat} (hR : zq_R pl sg m (fm0_first, fm0_waiting, fm0_holder, fm0_wrong, am4461, am4462, am4463, am4464, am4465, am4466, am4467, am4468, am4469, am44610, am44611, am44612, am44613, am44614, am44615, am44616, am44617)) (h : el_507 nd c_x9 c_x14 c_z0 m = true) : wL_lawOf_507 post mc ms x0 x3 x5 x7 x8 x9 x14 z0 kc ks fm0_first fm0_waiting fm0_holder fm0_wrong am4461 am4462 am4463 am4464 am4465 am4466 am4467 am4468 am4469 am44610 am44611 am44612 am44613 am44614 am44615 am44616 am44617 := by
  unfold wL_lawOf_507
  unfold el_507 at h
  have hD2 := hD
  rcases hD with ⟨e, hb, h2⟩ | ⟨e, kd, s, y, hkd, hs, hy, e7, hn1, hle, p1, p2, p3, p4, p5, p6, h2, hsg⟩
  · subst e
    have z0e : z0 = 0 := by
      rw [h_z0]
      rfl
    unfold wpX_submit
    refine zl_standb hb (br_f (by decide) (br_t z0e ?_))
    rcases zq_bc_b h with ⟨q, g⟩ | ⟨_, g⟩
    · exact absurd q (by decide)
    · obtain ⟨_, g⟩ := zq_bc_s g
      exact sl_530 H hp hN hD2 h_x9 h_x14 h_z0 zq_m1 zq_m1 hR g
  · subst e
    have n0 : ¬ z0 = 0 := by
      rw [h_z0]
      decide
    rcases zq_bc_b h with ⟨_, g⟩ | ⟨q, _⟩
    rotate_left
    · exact absurd q (by decide)
    have h1 : (1 : Int32) ≤ x8 := by
      rw [Int32.lt_iff_toInt_lt] at hn1
      rw [Int32.le_iff_toInt_le]
      omega
    have hW : zl_W pl x7 x8 x0 x3 1 := by
      refine ⟨by decide, ?_, ?_, ?_, p4.symm, p5.symm, p6.symm, H.2.2.2.2.2.1⟩
      · rw [p1, e7]
        have e := pk_div (a := 24 * kd + 6 * s + y) (d := 24) (by omega) (by decide) (by decide)
        rw [show (24 * kd + 6 * s + y) / 24 = kd by omega] at e
        exact e
      · have e6 : x7 / 6 = nI (4 * kd + s) := by
          rw [e7]
          have e := pk_div (a := 24 * kd + 6 * s + y) (d := 6) (by omega) (by decide) (by decide)
          rw [show (24 * kd + 6 * s + y) / 6 = 4 * kd + s by omega] at e
          exact e
        rw [e6, p2]
        have e := pk_rem (a := 4 * kd + s) (d := 4) (by omega) (by decide) (by decide)
        rw [show (4 * kd + s) % 4 = s by omega] at e
        exact e
      · rw [p3, e7]
        have e := pk_rem (a := 24 * kd + 6 * s + y) (d := 6) (by omega) (by decide) (by decide)
        rw [show (24 * kd + 6 * s + y) % 6 = y by omega] at e
        exact e
    refine zl_subm (cd := 24 * kd + 6 * s + y) H ?_ e7 (by omega) h1 hW hR g
    intro r c u m2 hr hR h
    obtain ⟨g1, g2, g3, g4, b1, b2, b3, b4, b5, b6, b7, b8, b9, b10, b11, b12, b13, b14, b15, b16, b17⟩ := u
    refine br_f n0 ?_
    exact sl_530 H hp hN hD2 h_x9 h_x14 h_z0 (rfl : (0 : Int32) = nI 0) hr hR h
noncomputable def el_469t (nd gf c_x9 c_x14 m : Nat) : Bool := zq_bc (Nat.beq gf 1) (el_507 nd c_x9 c_x14 1 m) (el_507 nd c_x9 c_x14 0 m)
theorem sl_469t {pl sg : Nat → Nat → Int32} (H : zq_H pl sg) {post : Int32 → St0 → Prop} (hp : post 1 ()) {mc ms kc ks : Nat} {x0 x3 x5 x7 x8 x9 x14 : Int32} {nd gf c_x9 c_x14 : Nat} (hN : zl_N x5 nd) (hD : zl_D pl sg x0 x3 x7 x8 gf) (h_x9 : x9 = nI c_x9) (h_x14 : x14 = nI c_x14) {fm0_first fm0_waiting fm0_holder fm0_wrong : Int32} {am4461 am4462 am4463 am4464 am4465 am4466 am4467 am4468 am4469 am44610 am44611 am44612 am44613 am44614 am44615 am44616 am44617 : Nat → Int32} {m : Nat} (hR : zq_R pl sg m (fm0_first, fm0_waiting, fm0_holder, fm0_wrong, am4461, am4462, am4463, am4464, am4465, am4466, am4467, am4468, am4469, am44610, am44611, am44612, am44613, am44614, am44615, am44616, am44617)) (h : el_469t nd gf c_x9 c_x14 m = true) : (x7 < 0 → (wL_lawOf_506 post mc ms x0 x3 x5 x7 x8 x9 x14 kc ks fm0_first fm0_waiting fm0_holder fm0_wrong am4461 am4462 am4463 am4464 am4465 am4466 am4467 am4468 am4469 am44610 am44611 am44612 am44613 am44614 am44615 am44616 am44617)) ∧ (¬ x7 < 0 → ((72 ≤ x7 → (wL_lawOf_506 post mc ms x0 x3 x5 x7 x8 x9 x14 kc ks fm0_first fm0_waiting fm0_holder fm0_wrong am4461 am4462 am4463 am4464 am4465 am4466 am4467 am4468 am4469 am44610 am44611 am44612 am44613 am44614 am44615 am44616 am44617)) ∧ (¬ 72 ≤ x7 → ((x8 < 1 → (wL_lawOf_506 post mc ms x0 x3 x5 x7 x8 x9 x14 kc ks fm0_first fm0_waiting fm0_holder fm0_wrong am4461 am4462 am4463 am4464 am4465 am4466 am4467 am4468 am4469 am44610 am44611 am44612 am44613 am44614 am44615 am44616 am44617)) ∧ (¬ x8 < 1 → (wL_lawOf_507 post mc ms x0 x3 x5 x7 x8 x9 x14 1 kc ks fm0_first fm0_waiting fm0_holder fm0_wrong am4461 am4462 am4463 am4464 am4465 am4466 am4467 am4468 am4469 am44610 am44611 am44612 am44613 am44614 am44615 am44616 am44617)))))) := by
  unfold el_469t at h
  have hD2 := hD
  rcases hD with ⟨e, hb, h2⟩ | ⟨e, kd, s, y, hkd, hs, hy, e7, hn1, _⟩
  · subst e
    rcases zq_bc_b h with ⟨q, g⟩ | ⟨_, g⟩
    · exact absurd q (by decide)
    unfold wL_lawOf_506
    have A := sl_507 (mc := mc) (ms := ms) (kc := kc) (ks := ks) H hp hN hD2 h_x9 h_x14 (rfl : (0 : Int32) = nI 0) hR g
    refine br_c (fun _ => A) (fun z1 => br_c (fun _ => A) (fun z2 => br_c (fun _ => A) (fun z3 => ?_)))
    rcases hb with b | b | b
    · exact absurd b z1
    · exact absurd b z2
    · exact absurd b z3
  · subst e
    rcases zq_bc_b h with ⟨_, g⟩ | ⟨q, _⟩
    rotate_left
    · exact absurd q (by decide)
    rw [e7]
    refine br_f (nI_pos (by omega)) (br_f (nI_ge (b := 72) (by omega) (by decide)) (br_f hn1 ?_))
    rw [← e7]
    exact sl_507 H hp hN hD2 h_x9 h_x14 (rfl : (1 : Int32) = nI 1) hR g
end
section
noncomputable def el_469 (nd : Nat) (gf : Nat) (c_x9 : Nat) (c_x14 : Nat) (c_z0 : Nat) (c_z1 : Nat) (m : Nat) : Bool := zq_bc (zq_eq c_z1 c_z0) (ez_leader (fun c1 => zq_bc (zq_eq c1 c_x14) (el_469t nd gf c_x9 c_x14 m) (false)) m) (false)
theorem sl_469 {pl sg : Nat → Nat → Int32} (H : zq_H pl sg) {post : Int32 → St0 → Prop} (hp : post 1 ()) {mc ms kc ks : Nat} {x0 x3 x5 x7 x8 x9 x14 z0 z1 : Int32} {nd gf c_x9 c_x14 c_z0 c_z1 : Nat} (hN : zl_N x5 nd) (hD : zl_D pl sg x0 x3 x7 x8 gf) (h_x9 : x9 = nI c_x9) (h_x14 : x14 = nI c_x14) (h_z0 : z0 = nI c_z0) (h_z1 : z1 = nI c_z1) {fm0_first fm0_waiting fm0_holder fm0_wrong : Int32} {am4461 am4462 am4463 am4464 am4465 am4466 am4467 am4468 am4469 am44610 am44611 am44612 am44613 am44614 am44615 am44616 am44617 : Nat → Int32} {m : Nat} (hR : zq_R pl sg m (fm0_first, fm0_waiting, fm0_holder, fm0_wrong, am4461, am4462, am4463, am4464, am4465, am4466, am4467, am4468, am4469, am44610, am44611, am44612, am44613, am44614, am44615, am44616, am44617)) (h : el_469 nd gf c_x9 c_x14 c_z0 c_z1 m = true) : wL_lawOf_469 post mc ms x0 x3 x5 x7 x8 x9 x14 z0 z1 kc ks fm0_first fm0_waiting fm0_holder fm0_wrong am4461 am4462 am4463 am4464 am4465 am4466 am4467 am4468 am4469 am44610 am44611 am44612 am44613 am44614 am44615 am44616 am44617 := by
  unfold wL_lawOf_469
  unfold el_469 at h
  refine zq_br (zq_ceq h_z1 h_z0) h (fun h => ?_) (fun h => ?_)
  · refine sz_leader H ?_ hR h
    intro r_390 c1 hc1 h
    refine zq_br (zq_ceq hc1 h_x14) h (fun h => ?_) (fun h => ?_)
    · exact sl_469t H hp hN hD h_x9 h_x14 hR h
    · exact zq_ff h
  · exact zq_ff h
noncomputable def el_429 (nd : Nat) (gd : Nat) (gf : Nat) (c_x9 : Nat) (c_x13 : Nat) (c_z0 : Nat) (m : Nat) : Bool := ez_leader (fun c1 => zq_bc (zq_eq c1 c_z0) (zl_move0 (fun c2 m3 => zq_bc (zq_eq c_x9 0) (el_469 nd gf c_x9 c_z0 4294967295 c2 m3) (zq_bc (zq_eq c_x13 0) (el_469 nd gf c_x9 c_z0 0 c2 m3) (zq_bc (zq_bl gd 3) (el_469 nd gf c_x9 c_z0 gd c2 m3) false))) nd m) (false)) m
theorem sl_429 {pl sg : Nat → Nat → Int32} (H : zq_H pl sg) {post : Int32 → St0 → Prop} (hp : post 1 ()) {mc ms kc ks : Nat} {x0 x3 x5 x6 x7 x8 x9 x13 z0 : Int32} {nd gd gf c_x9 c_x13 c_z0 : Nat} (hN : zl_N x5 nd) (hG : zl_G x6 gd) (hD : zl_D pl sg x0 x3 x7 x8 gf) (h_x9 : x9 = nI c_x9) (h_x13 : x13 = nI c_x13) (h_z0 : z0 = nI c_z0) {fm0_first fm0_waiting fm0_holder fm0_wrong : Int32} {am3621 am3622 am3623 am3624 am3625 am3626 am3627 am3628 am3629 am36210 am36211 am36212 am36213 am36214 am36215 am36216 am36217 : Nat → Int32} {m : Nat} (hR : zq_R pl sg m (fm0_first, fm0_waiting, fm0_holder, fm0_wrong, am3621, am3622, am3623, am3624, am3625, am3626, am3627, am3628, am3629, am36210, am36211, am36212, am36213, am36214, am36215, am36216, am36217)) (h : el_429 nd gd gf c_x9 c_x13 c_z0 m = true) : wL_lawOf_429 post mc ms x0 x3 x5 x6 x7 x8 x9 x13 z0 kc ks fm0_first fm0_waiting fm0_holder fm0_wrong am3621 am3622 am3623 am3624 am3625 am3626 am3627 am3628 am3629 am36210 am36211 am36212 am36213 am36214 am36215 am36216 am36217 := by
  unfold wL_lawOf_429
  unfold el_429 at h
  refine sz_leader H ?_ hR h
  intro r_330 c1 hc1 h
  refine zq_br (zq_ceq hc1 h_z0) h (fun h => ?_) (fun h => ?_)
  · refine sl_move0 H ?_ hN hR h
    intro r_332 c2 u m3 hc2 hR h
    obtain ⟨fm0_first_333, fm0_waiting_334, fm0_holder_335, fm0_wrong_336, am4461_339, am4462_342, am4463_345, am4464_348, am4465_351, am4466_354, am4467_357, am4468_360, am4469_363, am44610_366, am44611_369, am44612_372, am44613_375, am44614_378, am44615_381, am44616_384, am44617_387⟩ := u
    refine zq_br (zq_ceq h_x9 (rfl : (0 : Int32) = nI 0)) h (fun h => ?_) (fun h => ?_)
    · exact sl_469 H hp hN hD h_x9 h_z0 zq_m1 hc2 hR h
    · refine zq_br (zq_ceq h_x13 (rfl : (0 : Int32) = nI 0)) h (fun h => ?_) (fun h => ?_)
      · exact sl_469 H hp hN hD h_x9 h_z0 (rfl : (0 : Int32) = nI 0) hc2 hR h
      · obtain ⟨q4, h⟩ := zq_bc_s h
        exact sl_469 H hp hN hD h_x9 h_z0 (zl_g hG q4) hc2 hR h
  · exact zq_ff h
noncomputable def el_428 (nd : Nat) (gd : Nat) (gf : Nat) (c_x9 : Nat) (c_x13 : Nat) (m : Nat) : Bool := el_429 nd gd gf c_x9 c_x13 0 m
theorem sl_428 {pl sg : Nat → Nat → Int32} (H : zq_H pl sg) {post : Int32 → St0 → Prop} (hp : post 1 ()) {mc ms kc ks : Nat} {x0 x3 x5 x6 x7 x8 x9 x13 : Int32} {nd gd gf c_x9 c_x13 : Nat} (hN : zl_N x5 nd) (hG : zl_G x6 gd) (hD : zl_D pl sg x0 x3 x7 x8 gf) (h_x9 : x9 = nI c_x9) (h_x13 : x13 = nI c_x13) {fm0_first fm0_waiting fm0_holder fm0_wrong : Int32} {am3621 am3622 am3623 am3624 am3625 am3626 am3627 am3628 am3629 am36210 am36211 am36212 am36213 am36214 am36215 am36216 am36217 : Nat → Int32} {m : Nat} (hR : zq_R pl sg m (fm0_first, fm0_waiting, fm0_holder, fm0_wrong, am3621, am3622, am3623, am3624, am3625, am3626, am3627, am3628, am3629, am36210, am36211, am36212, am36213, am36214, am36215, am36216, am36217)) (h : el_428 nd gd gf c_x9 c_x13 m = true) : wL_lawOf_428 post mc ms x0 x3 x5 x6 x7 x8 x9 x13 kc ks fm0_first fm0_waiting fm0_holder fm0_wrong am3621 am3622 am3623 am3624 am3625 am3626 am3627 am3628 am3629 am36210 am36211 am36212 am36213 am36214 am36215 am36216 am36217 := by
  unfold wL_lawOf_428
  unfold el_428 at h
  exact sl_429 H hp hN hG hD h_x9 h_x13 (rfl : (0 : Int32) = nI 0) hR h
noncomputable def el_412 (nd : Nat) (gd : Nat) (gf : Nat) (c_x9 : Nat) (c_z0 : Nat) (m : Nat) : Bool := zq_bc (zq_eq c_z0 0) (el_428 nd gd gf c_x9 c_z0 m) (zq_bc (zq_bl nd 5) (zq_bc (zq_eq nd 0) (el_429 nd gd gf c_x9 c_z0 1 m) (el_428 nd gd gf c_x9 c_z0 m)) false)
theorem sl_412 {pl sg : Nat → Nat → Int32} (H : zq_H pl sg) {post : Int32 → St0 → Prop} (hp : post 1 ()) {mc ms kc ks : Nat} {x0 x3 x5 x6 x7 x8 x9 z0 : Int32} {nd gd gf c_x9 c_z0 : Nat} (hN : zl_N x5 nd) (hG : zl_G x6 gd) (hD : zl_D pl sg x0 x3 x7 x8 gf) (h_x9 : x9 = nI c_x9) (h_z0 : z0 = nI c_z0) {fm0_first fm0_waiting fm0_holder fm0_wrong : Int32} {am3621 am3622 am3623 am3624 am3625 am3626 am3627 am3628 am3629 am36210 am36211 am36212 am36213 am36214 am36215 am36216 am36217 : Nat → Int32} {m : Nat} (hR : zq_R pl sg m (fm0_first, fm0_waiting, fm0_holder, fm0_wrong, am3621, am3622, am3623, am3624, am3625, am3626, am3627, am3628, am3629, am36210, am36211, am36212, am36213, am36214, am36215, am36216, am36217)) (h : el_412 nd gd gf c_x9 c_z0 m = true) : wL_lawOf_412 post mc ms x0 x3 x5 x6 x7 x8 x9 z0 kc ks fm0_first fm0_waiting fm0_holder fm0_wrong am3621 am3622 am3623 am3624 am3625 am3626 am3627 am3628 am3629 am36210 am36211 am36212 am36213 am36214 am36215 am36216 am36217 := by
  unfold wL_lawOf_412
  unfold el_412 at h
  refine zq_br (zq_ceq h_z0 (rfl : (0 : Int32) = nI 0)) h (fun h => ?_) (fun h => ?_)
  · exact sl_428 H hp hN hG hD h_x9 h_z0 hR h
  · obtain ⟨q1, h⟩ := zq_bc_s h
    refine zq_br (zq_ceq (zl_n hN q1) (rfl : (0 : Int32) = nI 0)) h (fun h => ?_) (fun h => ?_)
    · exact sl_429 H hp hN hG hD h_x9 h_z0 (rfl : (1 : Int32) = nI 1) hR h
    · exact sl_428 H hp hN hG hD h_x9 h_z0 hR h
noncomputable def el_411 (nd : Nat) (gd : Nat) (gf : Nat) (c_x9 : Nat) (m : Nat) : Bool := el_412 nd gd gf c_x9 0 m
theorem sl_411 {pl sg : Nat → Nat → Int32} (H : zq_H pl sg) {post : Int32 → St0 → Prop} (hp : post 1 ()) {mc ms kc ks : Nat} {x0 x3 x5 x6 x7 x8 x9 : Int32} {nd gd gf c_x9 : Nat} (hN : zl_N x5 nd) (hG : zl_G x6 gd) (hD : zl_D pl sg x0 x3 x7 x8 gf) (h_x9 : x9 = nI c_x9) {fm0_first fm0_waiting fm0_holder fm0_wrong : Int32} {am3621 am3622 am3623 am3624 am3625 am3626 am3627 am3628 am3629 am36210 am36211 am36212 am36213 am36214 am36215 am36216 am36217 : Nat → Int32} {m : Nat} (hR : zq_R pl sg m (fm0_first, fm0_waiting, fm0_holder, fm0_wrong, am3621, am3622, am3623, am3624, am3625, am3626, am3627, am3628, am3629, am36210, am36211, am36212, am36213, am36214, am36215, am36216, am36217)) (h : el_411 nd gd gf c_x9 m = true) : wL_lawOf_411 post mc ms x0 x3 x5 x6 x7 x8 x9 kc ks fm0_first fm0_waiting fm0_holder fm0_wrong am3621 am3622 am3623 am3624 am3625 am3626 am3627 am3628 am3629 am36210 am36211 am36212 am36213 am36214 am36215 am36216 am36217 := by
  unfold wL_lawOf_411
  unfold el_411 at h
  exact sl_412 H hp hN hG hD h_x9 (rfl : (0 : Int32) = nI 0) hR h
noncomputable def el_386 (nd : Nat) (gd : Nat) (gf : Nat) (c_x9 : Nat) (c_z0 : Nat) (c_z1 : Nat) (m : Nat) : Bool := zq_bc (zq_eq c_z1 c_z0) (zq_bc (zq_eq c_x9 0) (el_411 nd gd gf c_x9 m) (zq_bc (zl_mv gd) (el_412 nd gd gf c_x9 1 m) (el_411 nd gd gf c_x9 m))) (false)
theorem sl_386 {pl sg : Nat → Nat → Int32} (H : zq_H pl sg) {post : Int32 → St0 → Prop} (hp : post 1 ()) {mc ms kc ks : Nat} {x0 x3 x5 x6 x7 x8 x9 z0 z1 : Int32} {nd gd gf c_x9 c_z0 c_z1 : Nat} (hN : zl_N x5 nd) (hG : zl_G x6 gd) (hD : zl_D pl sg x0 x3 x7 x8 gf) (h_x9 : x9 = nI c_x9) (h_z0 : z0 = nI c_z0) (h_z1 : z1 = nI c_z1) {fm0_first fm0_waiting fm0_holder fm0_wrong : Int32} {am3621 am3622 am3623 am3624 am3625 am3626 am3627 am3628 am3629 am36210 am36211 am36212 am36213 am36214 am36215 am36216 am36217 : Nat → Int32} {m : Nat} (hR : zq_R pl sg m (fm0_first, fm0_waiting, fm0_holder, fm0_wrong, am3621, am3622, am3623, am3624, am3625, am3626, am3627, am3628, am3629, am36210, am36211, am36212, am36213, am36214, am36215, am36216, am36217)) (h : el_386 nd gd gf c_x9 c_z0 c_z1 m = true) : wL_lawOf_386 post mc ms x0 x3 x5 x6 x7 x8 x9 z0 z1 kc ks fm0_first fm0_waiting fm0_holder fm0_wrong am3621 am3622 am3623 am3624 am3625 am3626 am3627 am3628 am3629 am36210 am36211 am36212 am36213 am36214 am36215 am36216 am36217 := by
  unfold wL_lawOf_386
  unfold el_386 at h
  refine zq_br (zq_ceq h_z1 h_z0) h (fun h => ?_) (fun h => ?_)
  · refine zq_br (zq_ceq h_x9 (rfl : (0 : Int32) = nI 0)) h (fun h => ?_) (fun h => ?_)
    · exact sl_411 H hp hN hG hD h_x9 hR h
    · refine zl_grp0 hG h (fun h => ?_) (fun h => ?_)
      · exact sl_412 H hp hN hG hD h_x9 (rfl : (1 : Int32) = nI 1) hR h
      · exact sl_411 H hp hN hG hD h_x9 hR h
  · exact zq_ff h
noncomputable def el_385 (nd : Nat) (gd : Nat) (gf : Nat) (c_x9 : Nat) (c_z0 : Nat) (m : Nat) : Bool := el_386 nd gd gf c_x9 4294967295 c_z0 m
theorem sl_385 {pl sg : Nat → Nat → Int32} (H : zq_H pl sg) {post : Int32 → St0 → Prop} (hp : post 1 ()) {mc ms kc ks : Nat} {x0 x3 x5 x6 x7 x8 x9 z0 : Int32} {nd gd gf c_x9 c_z0 : Nat} (hN : zl_N x5 nd) (hG : zl_G x6 gd) (hD : zl_D pl sg x0 x3 x7 x8 gf) (h_x9 : x9 = nI c_x9) (h_z0 : z0 = nI c_z0) {fm0_first fm0_waiting fm0_holder fm0_wrong : Int32} {am3621 am3622 am3623 am3624 am3625 am3626 am3627 am3628 am3629 am36210 am36211 am36212 am36213 am36214 am36215 am36216 am36217 : Nat → Int32} {m : Nat} (hR : zq_R pl sg m (fm0_first, fm0_waiting, fm0_holder, fm0_wrong, am3621, am3622, am3623, am3624, am3625, am3626, am3627, am3628, am3629, am36210, am36211, am36212, am36213, am36214, am36215, am36216, am36217)) (h : el_385 nd gd gf c_x9 c_z0 m = true) : wL_lawOf_385 post mc ms x0 x3 x5 x6 x7 x8 x9 z0 kc ks fm0_first fm0_waiting fm0_holder fm0_wrong am3621 am3622 am3623 am3624 am3625 am3626 am3627 am3628 am3629 am36210 am36211 am36212 am36213 am36214 am36215 am36216 am36217 := by
  unfold wL_lawOf_385
  unfold el_385 at h
  exact sl_386 H hp hN hG hD h_x9 zq_m1 h_z0 hR h
noncomputable def el_345 (nd : Nat) (gd : Nat) (gf : Nat) (c_x9 : Nat) (c_z0 : Nat) (c_z1 : Nat) (m : Nat) : Bool := zq_bc (zq_eq c_z1 c_z0) (ez_faults (fun c1 m2 => zq_bc (zq_eq c1 0) (zl_move (fun c3 m4 => zq_bc (zq_eq c_x9 0) (el_385 nd gd gf c_x9 c3 m4) (zq_bc (zq_bl gd 3) (el_386 nd gd gf c_x9 0 c3 m4) (el_385 nd gd gf c_x9 c3 m4))) nd gd m2) (false)) m) (false)
theorem sl_345 {pl sg : Nat → Nat → Int32} (H : zq_H pl sg) {post : Int32 → St0 → Prop} (hp : post 1 ()) {mc ms kc ks : Nat} {x0 x3 x5 x6 x7 x8 x9 z0 z1 : Int32} {nd gd gf c_x9 c_z0 c_z1 : Nat} (hN : zl_N x5 nd) (hG : zl_G x6 gd) (hD : zl_D pl sg x0 x3 x7 x8 gf) (h_x9 : x9 = nI c_x9) (h_z0 : z0 = nI c_z0) (h_z1 : z1 = nI c_z1) {fm0_first fm0_waiting fm0_holder fm0_wrong : Int32} {am3321 am3322 am3323 am3324 am3325 am3326 am3327 am3328 am3329 am33210 am33211 am33212 am33213 am33214 am33215 am33216 am33217 : Nat → Int32} {m : Nat} (hR : zq_R pl sg m (fm0_first, fm0_waiting, fm0_holder, fm0_wrong, am3321, am3322, am3323, am3324, am3325, am3326, am3327, am3328, am3329, am33210, am33211, am33212, am33213, am33214, am33215, am33216, am33217)) (h : el_345 nd gd gf c_x9 c_z0 c_z1 m = true) : wL_lawOf_345 post mc ms x0 x3 x5 x6 x7 x8 x9 z0 z1 kc ks fm0_first fm0_waiting fm0_holder fm0_wrong am3321 am3322 am3323 am3324 am3325 am3326 am3327 am3328 am3329 am33210 am33211 am33212 am33213 am33214 am33215 am33216 am33217 := by
  unfold wL_lawOf_345
  unfold el_345 at h
  refine zq_br (zq_ceq h_z1 h_z0) h (fun h => ?_) (fun h => ?_)
  · refine sz_faults H ?_ hR h
    intro r_213 c1 u m2 hc1 hR h
    obtain ⟨fm0_first_214, fm0_waiting_215, fm0_holder_216, fm0_wrong_217, am3501_220, am3502_223, am3503_226, am3504_229, am3505_232, am3506_235, am3507_238, am3508_241, am3509_244, am35010_247, am35011_250, am35012_253, am35013_256, am35014_259, am35015_262, am35016_265, am35017_268⟩ := u
    refine zq_br (zq_ceq hc1 (rfl : (0 : Int32) = nI 0)) h (fun h => ?_) (fun h => ?_)
    · refine sl_move H ?_ hN hG hR h
      intro r_270 c3 u m4 hc3 hR h
      obtain ⟨fm0_first_271, fm0_waiting_272, fm0_holder_273, fm0_wrong_274, am3621_277, am3622_280, am3623_283, am3624_286, am3625_289, am3626_292, am3627_295, am3628_298, am3629_301, am36210_304, am36211_307, am36212_310, am36213_313, am36214_316, am36215_319, am36216_322, am36217_325⟩ := u
      refine zq_br (zq_ceq h_x9 (rfl : (0 : Int32) = nI 0)) h (fun h => ?_) (fun h => ?_)
      · exact sl_385 H hp hN hG hD h_x9 hc3 hR h
      · refine zl_grp hG h (fun h => ?_) (fun h => ?_)
        · exact sl_386 H hp hN hG hD h_x9 (rfl : (0 : Int32) = nI 0) hc3 hR h
        · exact sl_385 H hp hN hG hD h_x9 hc3 hR h
    · exact zq_ff h
  · exact zq_ff h
noncomputable def el_324 (nd : Nat) (gd : Nat) (gf : Nat) (c_x9 : Nat) (c_z0 : Nat) (c_z1 : Nat) (m : Nat) : Bool := zq_bc (zq_eq c_z1 c_z0) (zl_member (fun c1 m2 => zq_bc (zq_eq c_x9 0) (el_345 nd gd gf c_x9 4294967295 c1 m2) (el_345 nd gd gf c_x9 0 c1 m2)) nd 1 m) (false)
theorem sl_324 {pl sg : Nat → Nat → Int32} (H : zq_H pl sg) {post : Int32 → St0 → Prop} (hp : post 1 ()) {mc ms kc ks : Nat} {x0 x3 x5 x6 x7 x8 x9 z0 z1 : Int32} {nd gd gf c_x9 c_z0 c_z1 : Nat} (hN : zl_N x5 nd) (hG : zl_G x6 gd) (hD : zl_D pl sg x0 x3 x7 x8 gf) (h_x9 : x9 = nI c_x9) (h_z0 : z0 = nI c_z0) (h_z1 : z1 = nI c_z1) {fm0_first fm0_waiting fm0_holder fm0_wrong : Int32} {am3111 am3112 am3113 am3114 am3115 am3116 am3117 am3118 am3119 am31110 am31111 am31112 am31113 am31114 am31115 am31116 am31117 : Nat → Int32} {m : Nat} (hR : zq_R pl sg m (fm0_first, fm0_waiting, fm0_holder, fm0_wrong, am3111, am3112, am3113, am3114, am3115, am3116, am3117, am3118, am3119, am31110, am31111, am31112, am31113, am31114, am31115, am31116, am31117)) (h : el_324 nd gd gf c_x9 c_z0 c_z1 m = true) : wL_lawOf_324 post mc ms x0 x3 x5 x6 x7 x8 x9 z0 z1 kc ks fm0_first fm0_waiting fm0_holder fm0_wrong am3111 am3112 am3113 am3114 am3115 am3116 am3117 am3118 am3119 am31110 am31111 am31112 am31113 am31114 am31115 am31116 am31117 := by
  unfold wL_lawOf_324
  unfold el_324 at h
  refine zq_br (zq_ceq h_z1 h_z0) h (fun h => ?_) (fun h => ?_)
  · refine sl_member H ?_ hN (rfl : (1 : Int32) = nI 1) hR h
    intro r_155 c1 u m2 hc1 hR h
    obtain ⟨fm0_first_156, fm0_waiting_157, fm0_holder_158, fm0_wrong_159, am3321_162, am3322_165, am3323_168, am3324_171, am3325_174, am3326_177, am3327_180, am3328_183, am3329_186, am33210_189, am33211_192, am33212_195, am33213_198, am33214_201, am33215_204, am33216_207, am33217_210⟩ := u
    refine zq_br (zq_ceq h_x9 (rfl : (0 : Int32) = nI 0)) h (fun h => ?_) (fun h => ?_)
    · exact sl_345 H hp hN hG hD h_x9 zq_m1 hc1 hR h
    · exact sl_345 H hp hN hG hD h_x9 (rfl : (0 : Int32) = nI 0) hc1 hR h
  · exact zq_ff h
noncomputable def el_304 (nd : Nat) (gd : Nat) (gf : Nat) (c_x9 : Nat) (c_z0 : Nat) (c_z1 : Nat) (m : Nat) : Bool := zq_bc (zq_eq c_z1 c_z0) (zl_start (fun c1 m2 => zq_bc (zq_eq c_x9 0) (el_324 nd gd gf c_x9 4294967295 c1 m2) (el_324 nd gd gf c_x9 0 c1 m2)) nd m) (false)
theorem sl_304 {pl sg : Nat → Nat → Int32} (H : zq_H pl sg) {post : Int32 → St0 → Prop} (hp : post 1 ()) {mc ms kc ks : Nat} {x0 x3 x5 x6 x7 x8 x9 z0 z1 : Int32} {nd gd gf c_x9 c_z0 c_z1 : Nat} (hN : zl_N x5 nd) (hG : zl_G x6 gd) (hD : zl_D pl sg x0 x3 x7 x8 gf) (h_x9 : x9 = nI c_x9) (h_z0 : z0 = nI c_z0) (h_z1 : z1 = nI c_z1) {fm0_first fm0_waiting fm0_holder fm0_wrong : Int32} {am41 am42 am43 am44 am45 am46 am47 am48 am49 am410 am411 am412 am413 am414 am415 am416 am417 : Nat → Int32} {m : Nat} (hR : zq_R pl sg m (fm0_first, fm0_waiting, fm0_holder, fm0_wrong, am41, am42, am43, am44, am45, am46, am47, am48, am49, am410, am411, am412, am413, am414, am415, am416, am417)) (h : el_304 nd gd gf c_x9 c_z0 c_z1 m = true) : wL_lawOf_304 post mc ms x0 x3 x5 x6 x7 x8 x9 z0 z1 kc ks fm0_first fm0_waiting fm0_holder fm0_wrong am41 am42 am43 am44 am45 am46 am47 am48 am49 am410 am411 am412 am413 am414 am415 am416 am417 := by
  unfold wL_lawOf_304
  unfold el_304 at h
  refine zq_br (zq_ceq h_z1 h_z0) h (fun h => ?_) (fun h => ?_)
  · refine sl_start H ?_ hN hR h
    intro r_97 c1 u m2 hc1 hR h
    obtain ⟨fm0_first_98, fm0_waiting_99, fm0_holder_100, fm0_wrong_101, am3111_104, am3112_107, am3113_110, am3114_113, am3115_116, am3116_119, am3117_122, am3118_125, am3119_128, am31110_131, am31111_134, am31112_137, am31113_140, am31114_143, am31115_146, am31116_149, am31117_152⟩ := u
    refine zq_br (zq_ceq h_x9 (rfl : (0 : Int32) = nI 0)) h (fun h => ?_) (fun h => ?_)
    · exact sl_324 H hp hN hG hD h_x9 zq_m1 hc1 hR h
    · exact sl_324 H hp hN hG hD h_x9 (rfl : (0 : Int32) = nI 0) hc1 hR h
  · exact zq_ff h
end
section
theorem zl_same_g {pl sg : Nat → Nat → Int32} (H : zq_H pl sg) {post : Int32 → Prop} {x z : Int32} {n y v : Nat} (hx : x = nI n) (hn : n < 5) (hz : z = nI y) (hy : y < 5) {u : St2} {m : Nat} (hR : zq_R pl sg m u) (hs : ∀ n, n < 5 → zq_rd m (54 + n) / 64 = v) (hp : post 1) : wpX_same post u x z := by
  obtain ⟨f1, f2, f3, f4, a1, a2, a3, a4, a5, a6, a7, a8, a9, a10, a11, a12, a13, a14, a15, a16, a17⟩ := u
  unfold wpX_same
  refine zl_nodeg hx hn (br_f (by decide) (zl_nodeg hz hy (br_f (by decide) ?_)))
  refine sz_areSame (k := fun c => Nat.beq c 1) H ?_ hx hz hR ?_
  · intro r c hr hc
    have e : c = 1 := zq_beq_s hc
    rw [hr, e]
    exact br_f (by decide) hp
  · unfold ez_areSame
    have e : Nat.beq (Nat.div (zq_rd m (Nat.add 54 n)) 64) (Nat.div (zq_rd m (Nat.add 54 y)) 64) = true := by
      have e1 : Nat.div (zq_rd m (Nat.add 54 n)) 64 = v := hs n hn
      have e2 : Nat.div (zq_rd m (Nat.add 54 y)) 64 = v := hs y hy
      rw [e1, e2]
      exact (Nat.beq_eq ..).mpr rfl
    rw [zq_bl_m hn, zq_bl_m hy, e]
    rfl
theorem zl_same_b {post : Int32 → Prop} {x z : Int32} {u : St2} (hb : x < 0 ∨ 5 ≤ x) (hp : post (-1)) : wpX_same post u x z := by
  obtain ⟨f1, f2, f3, f4, a1, a2, a3, a4, a5, a6, a7, a8, a9, a10, a11, a12, a13, a14, a15, a16, a17⟩ := u
  unfold wpX_same
  exact zl_node hb (br_t rfl hp)
theorem zl_same_c {post : Int32 → Prop} {x z : Int32} {n : Nat} {u : St2} (hx : x = nI n) (hn : n < 5) (hb : z < 0 ∨ 5 ≤ z) (hp : post (-1)) : wpX_same post u x z := by
  obtain ⟨f1, f2, f3, f4, a1, a2, a3, a4, a5, a6, a7, a8, a9, a10, a11, a12, a13, a14, a15, a16, a17⟩ := u
  unfold wpX_same
  exact zl_nodeg hx hn (br_f (by decide) (zl_node hb (br_t rfl hp)))
def zl_9 (nd c9 : Nat) : Prop := (nd < 5 ∧ c9 = 1) ∨ (nd = 5 ∧ c9 = 0)
def zl_S (x1 x10 : Int32) : Prop := (∃ y, y < 4 ∧ x1 = nI y ∧ x10 = 1) ∨ ((x1 < 0 ∨ 4 ≤ x1) ∧ x10 = 0)
def zl_K (x2 x11 : Int32) : Prop := (∃ y, y < 6 ∧ x2 = nI y ∧ x11 = 1) ∨ ((x2 < 0 ∨ 6 ≤ x2) ∧ x11 = 0)
def zl_O (x1 z : Int32) : Prop := (∃ y, y < 5 ∧ x1 = nI y ∧ z = 1) ∨ ((x1 < 0 ∨ 5 ≤ x1) ∧ z = 0)
theorem zl_bad {x : Int32} {nd : Nat} (h : zl_N x nd) (e : nd = 5) : x < 0 ∨ 5 ≤ x := by
  rcases h with ⟨g, _⟩ | ⟨_, g⟩
  · omega
  · exact g
theorem zl_ok {x : Int32} {nd : Nat} (h : zl_N x nd) (e : nd < 5) : x = nI nd := by
  rcases h with ⟨_, g⟩ | ⟨g, _⟩
  · exact g
  · omega
theorem sl_304h {pl sg : Nat → Nat → Int32} (H : zq_H pl sg) {post : Int32 → St0 → Prop} (hp : post 1 ()) {mc ms kc ks : Nat} {x0 x3 x5 x6 x7 x8 x9 z0 z1 : Int32} {nd gd gf c9 : Nat} (hN : zl_N x5 nd) (hG : zl_G x6 gd) (hD : zl_D pl sg x0 x3 x7 x8 gf) (h9 : zl_9 nd c9) (h_x9 : x9 = nI c9) (hz : z1 = z0) {fm0_first fm0_waiting fm0_holder fm0_wrong : Int32} {am41 am42 am43 am44 am45 am46 am47 am48 am49 am410 am411 am412 am413 am414 am415 am416 am417 : Nat → Int32} {m : Nat} (hR : zq_R pl sg m (fm0_first, fm0_waiting, fm0_holder, fm0_wrong, am41, am42, am43, am44, am45, am46, am47, am48, am49, am410, am411, am412, am413, am414, am415, am416, am417)) (hs : ∀ n, n < 5 → zq_rd m (54 + n) / 64 = 0) (h : el_304 nd gd gf c9 1 1 m = true) : wL_lawOf_304 post mc ms x0 x3 x5 x6 x7 x8 x9 z0 z1 kc ks fm0_first fm0_waiting fm0_holder fm0_wrong am41 am42 am43 am44 am45 am46 am47 am48 am49 am410 am411 am412 am413 am414 am415 am416 am417 := by
  have Q := sl_304 (mc := mc) (ms := ms) (kc := kc) (ks := ks) (z0 := 1) (z1 := 1) H hp hN hG hD h_x9 rfl rfl hR h
  unfold wL_lawOf_304 at Q
  unfold wL_lawOf_304
  exact br_t hz (Q.1 rfl)
theorem sl_279 {pl sg : Nat → Nat → Int32} (H : zq_H pl sg) {post : Int32 → St0 → Prop} (hp : post 1 ()) {mc ms kc ks : Nat} {x0 x1 x3 x5 x6 x7 x8 x9 z0 : Int32} {nd gd gf c9 : Nat} (hN : zl_N x5 nd) (hG : zl_G x6 gd) (hD : zl_D pl sg x0 x3 x7 x8 gf) (h9 : zl_9 nd c9) (h_x9 : x9 = nI c9) (hO : zl_O x1 z0) {fm0_first fm0_waiting fm0_holder fm0_wrong : Int32} {am41 am42 am43 am44 am45 am46 am47 am48 am49 am410 am411 am412 am413 am414 am415 am416 am417 : Nat → Int32} {m : Nat} (hR : zq_R pl sg m (fm0_first, fm0_waiting, fm0_holder, fm0_wrong, am41, am42, am43, am44, am45, am46, am47, am48, am49, am410, am411, am412, am413, am414, am415, am416, am417)) (hs : ∀ n, n < 5 → zq_rd m (54 + n) / 64 = 0) (h : el_304 nd gd gf c9 1 1 m = true) : wL_lawOf_279 post mc ms x0 x1 x3 x5 x6 x7 x8 x9 z0 kc ks fm0_first fm0_waiting fm0_holder fm0_wrong am41 am42 am43 am44 am45 am46 am47 am48 am49 am410 am411 am412 am413 am414 am415 am416 am417 := by
  unfold wL_lawOf_279
  unfold wL_lawOf_303
  rcases h9 with ⟨g, e⟩ | ⟨g, e⟩
  · have n9 : ¬ x9 = 0 := by
      rw [h_x9, e]
      decide
    rcases hO with ⟨y, hy, e1, e2⟩ | ⟨hb, e2⟩
    · refine zl_same_g H (zl_ok hN g) g e1 hy hR hs (br_f n9 (br_f (by rw [e2]; decide) ?_))
      exact sl_304h H hp hN hG hD (Or.inl ⟨g, e⟩) h_x9 rfl hR hs h
    · refine zl_same_c (zl_ok hN g) g hb (br_f n9 (br_t e2 ?_))
      exact sl_304h H hp hN hG hD (Or.inl ⟨g, e⟩) h_x9 rfl hR hs h
  · refine zl_same_b (zl_bad hN g) (br_t (by rw [h_x9, e]; rfl) ?_)
    exact sl_304h H hp hN hG hD (Or.inr ⟨g, e⟩) h_x9 rfl hR hs h
theorem sl_249 {pl sg : Nat → Nat → Int32} (H : zq_H pl sg) {post : Int32 → St0 → Prop} (hp : post 1 ()) {mc ms kc ks : Nat} {x0 x1 x3 x5 x6 x7 x8 x9 z0 z1 : Int32} {nd gd gf c9 : Nat} (hN : zl_N x5 nd) (hG : zl_G x6 gd) (hD : zl_D pl sg x0 x3 x7 x8 gf) (h9 : zl_9 nd c9) (h_x9 : x9 = nI c9) (hz : z1 = z0) {fm0_first fm0_waiting fm0_holder fm0_wrong : Int32} {am41 am42 am43 am44 am45 am46 am47 am48 am49 am410 am411 am412 am413 am414 am415 am416 am417 : Nat → Int32} {m : Nat} (hR : zq_R pl sg m (fm0_first, fm0_waiting, fm0_holder, fm0_wrong, am41, am42, am43, am44, am45, am46, am47, am48, am49, am410, am411, am412, am413, am414, am415, am416, am417)) (hs : ∀ n, n < 5 → zq_rd m (54 + n) / 64 = 0) (h : el_304 nd gd gf c9 1 1 m = true) : wL_lawOf_249 post mc ms x0 x1 x3 x5 x6 x7 x8 x9 z0 z1 kc ks fm0_first fm0_waiting fm0_holder fm0_wrong am41 am42 am43 am44 am45 am46 am47 am48 am49 am410 am411 am412 am413 am414 am415 am416 am417 := by
  unfold wL_lawOf_249
  unfold wL_lawOf_278
  refine br_t hz ?_
  have T : ((x1 < 0 → wL_lawOf_279 post mc ms x0 x1 x3 x5 x6 x7 x8 x9 0 kc ks fm0_first fm0_waiting fm0_holder fm0_wrong am41 am42 am43 am44 am45 am46 am47 am48 am49 am410 am411 am412 am413 am414 am415 am416 am417) ∧ (¬ x1 < 0 → ((5 ≤ x1 → wL_lawOf_279 post mc ms x0 x1 x3 x5 x6 x7 x8 x9 0 kc ks fm0_first fm0_waiting fm0_holder fm0_wrong am41 am42 am43 am44 am45 am46 am47 am48 am49 am410 am411 am412 am413 am414 am415 am416 am417) ∧ (¬ 5 ≤ x1 → wL_lawOf_279 post mc ms x0 x1 x3 x5 x6 x7 x8 x9 1 kc ks fm0_first fm0_waiting fm0_holder fm0_wrong am41 am42 am43 am44 am45 am46 am47 am48 am49 am410 am411 am412 am413 am414 am415 am416 am417)))) := by
    refine br_c (fun g => ?_) (fun g1 => br_c (fun g => ?_) (fun g2 => ?_))
    · exact sl_279 H hp hN hG hD h9 h_x9 (Or.inr ⟨Or.inl g, rfl⟩) hR hs h
    · exact sl_279 H hp hN hG hD h9 h_x9 (Or.inr ⟨Or.inr g, rfl⟩) hR hs h
    · rcases pk_ix x1 (n := 5) (by decide) with g | g | ⟨j, hj, g⟩
      · exact absurd g g1
      · exact absurd g g2
      · exact sl_279 H hp hN hG hD h9 h_x9 (Or.inl ⟨j, hj, g, rfl⟩) hR hs h
  have s0 : ∀ j, sg 0 j = 0 := H.2.2.1
  rcases h9 with ⟨g, e⟩ | ⟨g, e⟩
  · rcases pk_ix x1 (n := 4) (by decide) with g1 | g1 | ⟨j, hj, g1⟩
    · exact zl_answer_c (zl_ok hN g) g (Or.inl g1) (br_t rfl T)
    · exact zl_answer_c (zl_ok hN g) g (Or.inr g1) (br_t rfl T)
    · refine zl_answer_g H (zl_ok hN g) g g1 hj hR ?_
      rw [hs nd g, s0]
      exact br_t rfl T
  · exact zl_answer_b (zl_bad hN g) (br_t rfl T)
theorem sl_212 {pl sg : Nat → Nat → Int32} (H : zq_H pl sg) {post : Int32 → St0 → Prop} (hp : post 1 ()) {mc ms kc ks : Nat} {x0 x1 x2 x3 x5 x6 x7 x8 x9 x10 z0 z1 : Int32} {nd gd gf c9 : Nat} (hN : zl_N x5 nd) (hG : zl_G x6 gd) (hD : zl_D pl sg x0 x3 x7 x8 gf) (h9 : zl_9 nd c9) (h_x9 : x9 = nI c9) (hS : zl_S x1 x10) (hz : z1 = z0) {fm0_first fm0_waiting fm0_holder fm0_wrong : Int32} {am41 am42 am43 am44 am45 am46 am47 am48 am49 am410 am411 am412 am413 am414 am415 am416 am417 : Nat → Int32} {m : Nat} (hR : zq_R pl sg m (fm0_first, fm0_waiting, fm0_holder, fm0_wrong, am41, am42, am43, am44, am45, am46, am47, am48, am49, am410, am411, am412, am413, am414, am415, am416, am417)) (hs : ∀ n, n < 5 → zq_rd m (54 + n) / 64 = 0) (h : el_304 nd gd gf c9 1 1 m = true) : wL_lawOf_212 post mc ms x0 x1 x2 x3 x5 x6 x7 x8 x9 x10 z0 z1 kc ks fm0_first fm0_waiting fm0_holder fm0_wrong am41 am42 am43 am44 am45 am46 am47 am48 am49 am410 am411 am412 am413 am414 am415 am416 am417 := by
  unfold wL_lawOf_212
  unfold wL_lawOf_248
  refine br_t hz ?_
  have s0 : ∀ j, sg 0 j = 0 := H.2.2.1
  rcases h9 with ⟨g, e⟩ | ⟨g, e⟩
  · have n9 : ¬ x9 = 0 := by
      rw [h_x9, e]
      decide
    have T : wpX_lastNumber (fun r_88 => ((x9 = 0 → (wL_lawOf_249 post mc ms x0 x1 x3 x5 x6 x7 x8 x9 (-1) r_88 kc ks fm0_first fm0_waiting fm0_holder fm0_wrong am41 am42 am43 am44 am45 am46 am47 am48 am49 am410 am411 am412 am413 am414 am415 am416 am417)) ∧ (¬ x9 = 0 → ((x10 = 0 → (wL_lawOf_249 post mc ms x0 x1 x3 x5 x6 x7 x8 x9 (-1) r_88 kc ks fm0_first fm0_waiting fm0_holder fm0_wrong am41 am42 am43 am44 am45 am46 am47 am48 am49 am410 am411 am412 am413 am414 am415 am416 am417)) ∧ (¬ x10 = 0 → (wL_lawOf_249 post mc ms x0 x1 x3 x5 x6 x7 x8 x9 0 r_88 kc ks fm0_first fm0_waiting fm0_holder fm0_wrong am41 am42 am43 am44 am45 am46 am47 am48 am49 am410 am411 am412 am413 am414 am415 am416 am417)))))) (fm0_first, fm0_waiting, fm0_holder, fm0_wrong, am41, am42, am43, am44, am45, am46, am47, am48, am49, am410, am411, am412, am413, am414, am415, am416, am417) x5 x1 := by
      rcases hS with ⟨y, hy, e1, e2⟩ | ⟨hb, e2⟩
      · refine zl_lastNumber_g H (zl_ok hN g) g e1 hy hR ?_
        rw [hs nd g, s0]
        refine br_f n9 (br_f (by rw [e2]; decide) ?_)
        exact sl_249 H hp hN hG hD (Or.inl ⟨g, e⟩) h_x9 rfl hR hs h
      · refine zl_lastNumber_c (zl_ok hN g) g hb (br_f n9 (br_t e2 ?_))
        exact sl_249 H hp hN hG hD (Or.inl ⟨g, e⟩) h_x9 rfl hR hs h
    rcases pk_ix x2 (n := 6) (by decide) with g1 | g1 | ⟨j, hj, g1⟩
    · exact zl_local_c (zl_ok hN g) g (Or.inl g1) (br_t rfl T)
    · exact zl_local_c (zl_ok hN g) g (Or.inr g1) (br_t rfl T)
    · refine zl_local_g H (zl_ok hN g) g g1 hj hR ?_
      rw [hs nd g, s0]
      exact br_t rfl T
  · refine zl_local_b (zl_bad hN g) (br_t rfl ?_)
    refine zl_lastNumber_b (zl_bad hN g) (br_t (by rw [h_x9, e]; rfl) ?_)
    exact sl_249 H hp hN hG hD (Or.inr ⟨g, e⟩) h_x9 rfl hR hs h
theorem zl_ln_x {X : Bool} {m : Nat} (f : Nat → Bool) (hf : ∀ l, f l = true → X = true) : ∀ (n c : Nat), ez_leaderNow_2 f n c m = true → X = true := by
  intro n
  induction n with
  | zero =>
    intro c h
    exact zq_ff h
  | succ n ih =>
    intro c h
    have h : ez_leaderNow_2_b f (ez_leaderNow_2 f n) c m = true := h
    unfold ez_leaderNow_2_b at h
    rcases zq_bc_b h with ⟨_, h⟩ | ⟨_, h⟩
    · exact hf _ h
    · obtain ⟨_, h⟩ := zq_bc_s h
      rcases zq_bc_b h with ⟨_, h⟩ | ⟨_, h⟩
      · exact hf _ h
      · obtain ⟨c2, _, h⟩ := zq_fo_e h
        exact ih _ h
theorem zl_lead_x {v m : Nat} {X : Bool} (h : zl_lead v X m = true) : X = true := by
  unfold zl_lead at h
  unfold ez_leaderNow at h
  refine zl_ln_x _ ?_ _ _ h
  intro l h
  obtain ⟨_, h⟩ := zq_bc_s h
  obtain ⟨_, h⟩ := zq_bc_s h
  exact h
noncomputable def el_168 (nd gd gf c9 m : Nat) : Bool := ez_leader (fun r => zq_bc (zq_eq r 0) (ez_pending (fun s => zq_bc (zq_eq s 0) (el_304 nd gd gf c9 1 1 m) false) m) false) m
noncomputable def el_129 (nd gd gf c9 m : Nat) : Bool := zl_sid 0 (zl_lead 0 (zl_isUp (fun r => zq_bc (zq_eq r (Nat.sub 4294967295 (Nat.mul c9 4294967294))) (zl_isMember (fun s => zq_bc (zq_eq s (Nat.sub 4294967295 (Nat.mul c9 4294967294))) (el_168 nd gd gf c9 m) false) nd m) false) nd m) m) m
theorem sl_168 {pl sg : Nat → Nat → Int32} (H : zq_H pl sg) {post : Int32 → St0 → Prop} (hp : post 1 ()) {mc ms kc ks : Nat} {x0 x1 x2 x3 x5 x6 x7 x8 x9 x10 x11 z0 z1 : Int32} {nd gd gf c9 : Nat} (hN : zl_N x5 nd) (hG : zl_G x6 gd) (hD : zl_D pl sg x0 x3 x7 x8 gf) (h9 : zl_9 nd c9) (h_x9 : x9 = nI c9) (hS : zl_S x1 x10) (hK : zl_K x2 x11) (hz : z1 = z0) {fm0_first fm0_waiting fm0_holder fm0_wrong : Int32} {am41 am42 am43 am44 am45 am46 am47 am48 am49 am410 am411 am412 am413 am414 am415 am416 am417 : Nat → Int32} {m : Nat} (hR : zq_R pl sg m (fm0_first, fm0_waiting, fm0_holder, fm0_wrong, am41, am42, am43, am44, am45, am46, am47, am48, am49, am410, am411, am412, am413, am414, am415, am416, am417)) (hs : ∀ n, n < 5 → zq_rd m (54 + n) / 64 = 0) {X : Bool} (hl : zl_lead 0 X m = true) (h : el_168 nd gd gf c9 m = true) : wL_lawOf_168 post mc ms x0 x1 x2 x3 x5 x6 x7 x8 x9 x10 x11 z0 z1 kc ks fm0_first fm0_waiting fm0_holder fm0_wrong am41 am42 am43 am44 am45 am46 am47 am48 am49 am410 am411 am412 am413 am414 am415 am416 am417 := by
  unfold wL_lawOf_168
  unfold el_168 at h
  have s0 : ∀ j, sg 0 j = 0 := H.2.2.1
  refine br_t hz ?_
  refine sz_leader H ?_ hR h
  intro r c hr h
  obtain ⟨q, h⟩ := zq_bc_s h
  refine br_t ((zq_ceq hr (rfl : (0 : Int32) = nI 0)).mpr q) ?_
  refine sz_pending H ?_ hR h
  intro r c hr h
  obtain ⟨q, h⟩ := zq_bc_s h
  refine br_t ((zq_ceq hr (rfl : (0 : Int32) = nI 0)).mpr q) ?_
  rcases hK with ⟨y, hy, e1, e2⟩ | ⟨hb, e2⟩
  · refine zl_get H e1 hy hR hl (fun _ => ?_)
    rw [s0]
    refine br_t rfl ?_
    refine zl_canGet H e1 hy hR hl (br_f (by rw [e2]; decide) ?_)
    exact sl_212 H hp hN hG hD h9 h_x9 hS rfl hR hs h
  · refine zl_getb H hb hR hl (br_t rfl ?_)
    refine zl_canGetb hb (br_t e2 ?_)
    exact sl_212 H hp hN hG hD h9 h_x9 hS rfl hR hs h
theorem sl_129 {pl sg : Nat → Nat → Int32} (H : zq_H pl sg) {post : Int32 → St0 → Prop} (hp : post 1 ()) {mc ms kc ks : Nat} {x0 x1 x2 x3 x5 x6 x7 x8 x9 x10 z0 : Int32} {nd gd gf c9 : Nat} (hN : zl_N x5 nd) (hG : zl_G x6 gd) (hD : zl_D pl sg x0 x3 x7 x8 gf) (h9 : zl_9 nd c9) (h_x9 : x9 = nI c9) (hS : zl_S x1 x10) (hK : zl_K x2 z0) {fm0_first fm0_waiting fm0_holder fm0_wrong : Int32} {am41 am42 am43 am44 am45 am46 am47 am48 am49 am410 am411 am412 am413 am414 am415 am416 am417 : Nat → Int32} {m : Nat} (hR : zq_R pl sg m (fm0_first, fm0_waiting, fm0_holder, fm0_wrong, am41, am42, am43, am44, am45, am46, am47, am48, am49, am410, am411, am412, am413, am414, am415, am416, am417)) (h : el_129 nd gd gf c9 m = true) : wL_lawOf_129 post mc ms x0 x1 x2 x3 x5 x6 x7 x8 x9 x10 z0 kc ks fm0_first fm0_waiting fm0_holder fm0_wrong am41 am42 am43 am44 am45 am46 am47 am48 am49 am410 am411 am412 am413 am414 am415 am416 am417 := by
  unfold wL_lawOf_129
  unfold el_129 at h
  obtain ⟨hs, hl⟩ := zl_sid_s h
  have hX : zl_isUp (fun r => zq_bc (zq_eq r (Nat.sub 4294967295 (Nat.mul c9 4294967294))) (zl_isMember (fun s => zq_bc (zq_eq s (Nat.sub 4294967295 (Nat.mul c9 4294967294))) (el_168 nd gd gf c9 m) false) nd m) false) nd m = true := zl_lead_x hl
  refine sl_isUp H ?_ hN hR hX
  intro r c hr h
  obtain ⟨q, h⟩ := zq_bc_s h
  unfold wL_lawOf_148
  have key : ∀ z : Int32, z = nI (Nat.sub 4294967295 (Nat.mul c9 4294967294)) → z = (if c9 = 0 then -1 else 1) := by
    intro z ez
    rcases h9 with ⟨g, e⟩ | ⟨g, e⟩
    · rw [ez, e]
      decide
    · rw [ez, e]
      decide
  have er : r = (if c9 = 0 then -1 else 1) := key r ((zq_ceq hr rfl).mpr q)
  rcases h9 with ⟨g, e⟩ | ⟨g, e⟩
  · have n9 : ¬ x9 = 0 := by
      rw [h_x9, e]
      decide
    rw [if_neg (by omega)] at er
    refine br_f n9 (br_t er ?_)
    refine sl_isMember H ?_ hN hR h
    intro s d hd h
    obtain ⟨q, h⟩ := zq_bc_s h
    have es : s = (if c9 = 0 then -1 else 1) := key s ((zq_ceq hd rfl).mpr q)
    rw [if_neg (by omega)] at es
    refine br_f n9 ?_
    exact sl_168 H hp hN hG hD (Or.inl ⟨g, e⟩) h_x9 hS hK es hR hs hl h
  · have n9 : x9 = 0 := by
      rw [h_x9, e]
      rfl
    rw [if_pos e] at er
    refine br_t n9 (br_t er ?_)
    refine sl_isMember H ?_ hN hR h
    intro s d hd h
    obtain ⟨q, h⟩ := zq_bc_s h
    have es : s = (if c9 = 0 then -1 else 1) := key s ((zq_ceq hd rfl).mpr q)
    rw [if_pos e] at es
    refine br_t n9 ?_
    exact sl_168 H hp hN hG hD (Or.inr ⟨g, e⟩) h_x9 hS hK es hR hs hl h
end
section
theorem zl_ev_0_0_0 : ez_init (fun m => el_129 0 0 0 1 m) = true := by decide +kernel
theorem zl_ev_0_0_1 : ez_init (fun m => el_129 0 0 1 1 m) = true := by decide +kernel
theorem zl_ev_0_1_0 : ez_init (fun m => el_129 0 1 0 1 m) = true := by decide +kernel
theorem zl_ev_0_1_1 : ez_init (fun m => el_129 0 1 1 1 m) = true := by decide +kernel
theorem zl_ev_0_2_0 : ez_init (fun m => el_129 0 2 0 1 m) = true := by decide +kernel
theorem zl_ev_0_2_1 : ez_init (fun m => el_129 0 2 1 1 m) = true := by decide +kernel
theorem zl_ev_0_3_0 : ez_init (fun m => el_129 0 3 0 1 m) = true := by decide +kernel
theorem zl_ev_0_3_1 : ez_init (fun m => el_129 0 3 1 1 m) = true := by decide +kernel
theorem zl_ev_1_0_0 : ez_init (fun m => el_129 1 0 0 1 m) = true := by decide +kernel
theorem zl_ev_1_0_1 : ez_init (fun m => el_129 1 0 1 1 m) = true := by decide +kernel
theorem zl_ev_1_1_0 : ez_init (fun m => el_129 1 1 0 1 m) = true := by decide +kernel
theorem zl_ev_1_1_1 : ez_init (fun m => el_129 1 1 1 1 m) = true := by decide +kernel
theorem zl_ev_1_2_0 : ez_init (fun m => el_129 1 2 0 1 m) = true := by decide +kernel
theorem zl_ev_1_2_1 : ez_init (fun m => el_129 1 2 1 1 m) = true := by decide +kernel
theorem zl_ev_1_3_0 : ez_init (fun m => el_129 1 3 0 1 m) = true := by decide +kernel
theorem zl_ev_1_3_1 : ez_init (fun m => el_129 1 3 1 1 m) = true := by decide +kernel
theorem zl_ev_2_0_0 : ez_init (fun m => el_129 2 0 0 1 m) = true := by decide +kernel
theorem zl_ev_2_0_1 : ez_init (fun m => el_129 2 0 1 1 m) = true := by decide +kernel
theorem zl_ev_2_1_0 : ez_init (fun m => el_129 2 1 0 1 m) = true := by decide +kernel
theorem zl_ev_2_1_1 : ez_init (fun m => el_129 2 1 1 1 m) = true := by decide +kernel
theorem zl_ev_2_2_0 : ez_init (fun m => el_129 2 2 0 1 m) = true := by decide +kernel
theorem zl_ev_2_2_1 : ez_init (fun m => el_129 2 2 1 1 m) = true := by decide +kernel
theorem zl_ev_2_3_0 : ez_init (fun m => el_129 2 3 0 1 m) = true := by decide +kernel
theorem zl_ev_2_3_1 : ez_init (fun m => el_129 2 3 1 1 m) = true := by decide +kernel
theorem zl_ev_3_0_0 : ez_init (fun m => el_129 3 0 0 1 m) = true := by decide +kernel
theorem zl_ev_3_0_1 : ez_init (fun m => el_129 3 0 1 1 m) = true := by decide +kernel
theorem zl_ev_3_1_0 : ez_init (fun m => el_129 3 1 0 1 m) = true := by decide +kernel
theorem zl_ev_3_1_1 : ez_init (fun m => el_129 3 1 1 1 m) = true := by decide +kernel
theorem zl_ev_3_2_0 : ez_init (fun m => el_129 3 2 0 1 m) = true := by decide +kernel
theorem zl_ev_3_2_1 : ez_init (fun m => el_129 3 2 1 1 m) = true := by decide +kernel
theorem zl_ev_3_3_0 : ez_init (fun m => el_129 3 3 0 1 m) = true := by decide +kernel
theorem zl_ev_3_3_1 : ez_init (fun m => el_129 3 3 1 1 m) = true := by decide +kernel
theorem zl_ev_4_0_0 : ez_init (fun m => el_129 4 0 0 1 m) = true := by decide +kernel
theorem zl_ev_4_0_1 : ez_init (fun m => el_129 4 0 1 1 m) = true := by decide +kernel
theorem zl_ev_4_1_0 : ez_init (fun m => el_129 4 1 0 1 m) = true := by decide +kernel
theorem zl_ev_4_1_1 : ez_init (fun m => el_129 4 1 1 1 m) = true := by decide +kernel
theorem zl_ev_4_2_0 : ez_init (fun m => el_129 4 2 0 1 m) = true := by decide +kernel
theorem zl_ev_4_2_1 : ez_init (fun m => el_129 4 2 1 1 m) = true := by decide +kernel
theorem zl_ev_4_3_0 : ez_init (fun m => el_129 4 3 0 1 m) = true := by decide +kernel
theorem zl_ev_4_3_1 : ez_init (fun m => el_129 4 3 1 1 m) = true := by decide +kernel
theorem zl_ev_5_0_0 : ez_init (fun m => el_129 5 0 0 0 m) = true := by decide +kernel
theorem zl_ev_5_0_1 : ez_init (fun m => el_129 5 0 1 0 m) = true := by decide +kernel
theorem zl_ev_5_1_0 : ez_init (fun m => el_129 5 1 0 0 m) = true := by decide +kernel
theorem zl_ev_5_1_1 : ez_init (fun m => el_129 5 1 1 0 m) = true := by decide +kernel
theorem zl_ev_5_2_0 : ez_init (fun m => el_129 5 2 0 0 m) = true := by decide +kernel
theorem zl_ev_5_2_1 : ez_init (fun m => el_129 5 2 1 0 m) = true := by decide +kernel
theorem zl_ev_5_3_0 : ez_init (fun m => el_129 5 3 0 0 m) = true := by decide +kernel
theorem zl_ev_5_3_1 : ez_init (fun m => el_129 5 3 1 0 m) = true := by decide +kernel
theorem zl_evA {nd gd gf c9 : Nat} (h9 : zl_9 nd c9) (hg : gd ≤ 3) (hf : gf ≤ 1) : ez_init (fun m => el_129 nd gd gf c9 m) = true := by
  have eg : gd = 0 ∨ gd = 1 ∨ gd = 2 ∨ gd = 3 := by omega
  have ef : gf = 0 ∨ gf = 1 := by omega
  rcases h9 with ⟨h, e⟩ | ⟨h, e⟩
  · have en : nd = 0 ∨ nd = 1 ∨ nd = 2 ∨ nd = 3 ∨ nd = 4 := by omega
    subst e
    rcases en with en | en | en | en | en <;> subst en <;> rcases eg with eg | eg | eg | eg <;> subst eg <;> rcases ef with ef | ef <;> subst ef
    · exact zl_ev_0_0_0
    · exact zl_ev_0_0_1
    · exact zl_ev_0_1_0
    · exact zl_ev_0_1_1
    · exact zl_ev_0_2_0
    · exact zl_ev_0_2_1
    · exact zl_ev_0_3_0
    · exact zl_ev_0_3_1
    · exact zl_ev_1_0_0
    · exact zl_ev_1_0_1
    · exact zl_ev_1_1_0
    · exact zl_ev_1_1_1
    · exact zl_ev_1_2_0
    · exact zl_ev_1_2_1
    · exact zl_ev_1_3_0
    · exact zl_ev_1_3_1
    · exact zl_ev_2_0_0
    · exact zl_ev_2_0_1
    · exact zl_ev_2_1_0
    · exact zl_ev_2_1_1
    · exact zl_ev_2_2_0
    · exact zl_ev_2_2_1
    · exact zl_ev_2_3_0
    · exact zl_ev_2_3_1
    · exact zl_ev_3_0_0
    · exact zl_ev_3_0_1
    · exact zl_ev_3_1_0
    · exact zl_ev_3_1_1
    · exact zl_ev_3_2_0
    · exact zl_ev_3_2_1
    · exact zl_ev_3_3_0
    · exact zl_ev_3_3_1
    · exact zl_ev_4_0_0
    · exact zl_ev_4_0_1
    · exact zl_ev_4_1_0
    · exact zl_ev_4_1_1
    · exact zl_ev_4_2_0
    · exact zl_ev_4_2_1
    · exact zl_ev_4_3_0
    · exact zl_ev_4_3_1
  · subst h
    subst e
    rcases eg with eg | eg | eg | eg <;> subst eg <;> rcases ef with ef | ef <;> subst ef
    · exact zl_ev_5_0_0
    · exact zl_ev_5_0_1
    · exact zl_ev_5_1_0
    · exact zl_ev_5_1_1
    · exact zl_ev_5_2_0
    · exact zl_ev_5_2_1
    · exact zl_ev_5_3_0
    · exact zl_ev_5_3_1
end
section
theorem sl_112 {pl sg : Nat → Nat → Int32} (H : zq_H pl sg) {post : Int32 → St0 → Prop} (hp : post 1 ()) {mc ms kc ks : Nat} {x0 x1 x2 x3 x5 x6 x7 x8 x9 z0 : Int32} {nd gd gf c9 : Nat} (hN : zl_N x5 nd) (hG : zl_G x6 gd) (hD : zl_D pl sg x0 x3 x7 x8 gf) (h9 : zl_9 nd c9) (h_x9 : x9 = nI c9) (hS : zl_S x1 z0) {fm0_first fm0_waiting fm0_holder fm0_wrong : Int32} {am41 am42 am43 am44 am45 am46 am47 am48 am49 am410 am411 am412 am413 am414 am415 am416 am417 : Nat → Int32} {m : Nat} (hR : zq_R pl sg m (fm0_first, fm0_waiting, fm0_holder, fm0_wrong, am41, am42, am43, am44, am45, am46, am47, am48, am49, am410, am411, am412, am413, am414, am415, am416, am417)) (h : el_129 nd gd gf c9 m = true) : wL_lawOf_112 post mc ms x0 x1 x2 x3 x5 x6 x7 x8 x9 z0 kc ks fm0_first fm0_waiting fm0_holder fm0_wrong am41 am42 am43 am44 am45 am46 am47 am48 am49 am410 am411 am412 am413 am414 am415 am416 am417 := by
  unfold wL_lawOf_112
  unfold wL_lawOf_128
  refine br_c (fun g => ?_) (fun g1 => br_c (fun g => ?_) (fun g2 => ?_))
  · exact sl_129 H hp hN hG hD h9 h_x9 hS (Or.inr ⟨Or.inl g, rfl⟩) hR h
  · exact sl_129 H hp hN hG hD h9 h_x9 hS (Or.inr ⟨Or.inr g, rfl⟩) hR h
  · rcases pk_ix x2 (n := 6) (by decide) with g | g | ⟨j, hj, g⟩
    · exact absurd g g1
    · exact absurd g g2
    · exact sl_129 H hp hN hG hD h9 h_x9 hS (Or.inl ⟨j, hj, g, rfl⟩) hR h
theorem sl_96 {pl sg : Nat → Nat → Int32} (H : zq_H pl sg) {post : Int32 → St0 → Prop} (hp : post 1 ()) {mc ms kc ks : Nat} {x0 x1 x2 x3 x5 x6 x7 x8 z0 : Int32} {nd gd gf c9 : Nat} (hN : zl_N x5 nd) (hG : zl_G x6 gd) (hD : zl_D pl sg x0 x3 x7 x8 gf) (h9 : zl_9 nd c9) (h_z0 : z0 = nI c9) {fm0_first fm0_waiting fm0_holder fm0_wrong : Int32} {am41 am42 am43 am44 am45 am46 am47 am48 am49 am410 am411 am412 am413 am414 am415 am416 am417 : Nat → Int32} {m : Nat} (hR : zq_R pl sg m (fm0_first, fm0_waiting, fm0_holder, fm0_wrong, am41, am42, am43, am44, am45, am46, am47, am48, am49, am410, am411, am412, am413, am414, am415, am416, am417)) (h : el_129 nd gd gf c9 m = true) : wL_lawOf_96 post mc ms x0 x1 x2 x3 x5 x6 x7 x8 z0 kc ks fm0_first fm0_waiting fm0_holder fm0_wrong am41 am42 am43 am44 am45 am46 am47 am48 am49 am410 am411 am412 am413 am414 am415 am416 am417 := by
  unfold wL_lawOf_96
  unfold wL_lawOf_111
  refine br_c (fun g => ?_) (fun g1 => br_c (fun g => ?_) (fun g2 => ?_))
  · exact sl_112 H hp hN hG hD h9 h_z0 (Or.inr ⟨Or.inl g, rfl⟩) hR h
  · exact sl_112 H hp hN hG hD h9 h_z0 (Or.inr ⟨Or.inr g, rfl⟩) hR h
  · rcases pk_ix x1 (n := 4) (by decide) with g | g | ⟨j, hj, g⟩
    · exact absurd g g1
    · exact absurd g g2
    · exact sl_112 H hp hN hG hD h9 h_z0 (Or.inl ⟨j, hj, g, rfl⟩) hR h
theorem sl_78 {pl sg : Nat → Nat → Int32} (H : zq_H pl sg) {post : Int32 → St0 → Prop} (hp : post 1 ()) {mc ms kc ks : Nat} {x0 x1 x2 x3 x5 x6 x7 z0 : Int32} {nd gd gf c9 : Nat} (hN : zl_N x5 nd) (hG : zl_G x6 gd) (hD : zl_D pl sg x0 x3 x7 z0 gf) (h9 : zl_9 nd c9) {fm0_first fm0_waiting fm0_holder fm0_wrong : Int32} {am41 am42 am43 am44 am45 am46 am47 am48 am49 am410 am411 am412 am413 am414 am415 am416 am417 : Nat → Int32} {m : Nat} (hR : zq_R pl sg m (fm0_first, fm0_waiting, fm0_holder, fm0_wrong, am41, am42, am43, am44, am45, am46, am47, am48, am49, am410, am411, am412, am413, am414, am415, am416, am417)) (h : el_129 nd gd gf c9 m = true) : wL_lawOf_78 post mc ms x0 x1 x2 x3 x5 x6 x7 z0 kc ks fm0_first fm0_waiting fm0_holder fm0_wrong am41 am42 am43 am44 am45 am46 am47 am48 am49 am410 am411 am412 am413 am414 am415 am416 am417 := by
  unfold wL_lawOf_78
  unfold wL_lawOf_95
  have h9' := h9
  rcases h9 with ⟨g, e⟩ | ⟨g, e⟩
  · have en := zl_ok hN g
    have A1 : ¬ x5 < 0 := by
      rw [en]
      exact nI_pos (by omega)
    have A2 : ¬ 5 ≤ x5 := by
      rw [en]
      exact nI_ge g (by decide)
    exact br_f A1 (br_f A2 (sl_96 H hp hN hG hD h9' (by rw [e]; rfl) hR h))
  · have A := sl_96 (mc := mc) (ms := ms) (kc := kc) (ks := ks) (x1 := x1) (x2 := x2) (z0 := 0) H hp hN hG hD h9' (by rw [e]; rfl) hR h
    refine br_c (fun _ => A) (fun z => ?_)
    rcases zl_bad hN g with b | b
    · exact absurd b z
    · exact br_t b A
theorem zl_sel (c : Prop) (a b : Int32) : ∃ x, (c ∧ x = a) ∨ (¬ c ∧ x = b) := by
  by_cases h : c
  · exact ⟨a, Or.inl ⟨h, rfl⟩⟩
  · exact ⟨b, Or.inr ⟨h, rfl⟩⟩
theorem zl_br2 {c : Prop} (P : Int32 → Prop) {a b x : Int32} (h : (c ∧ x = a) ∨ (¬ c ∧ x = b)) (hp : P x) : (c → P a) ∧ (¬ c → P b) := by
  rcases h with ⟨g, e⟩ | ⟨g, e⟩
  · rw [e] at hp
    exact br_t g hp
  · rw [e] at hp
    exact br_f g hp
theorem zl_exN (x : Int32) : ∃ nd c9, zl_N x nd ∧ zl_9 nd c9 := by
  rcases pk_ix x (n := 5) (by decide) with g | g | ⟨j, hj, g⟩
  · exact ⟨5, 0, Or.inr ⟨rfl, Or.inl g⟩, Or.inr ⟨rfl, rfl⟩⟩
  · exact ⟨5, 0, Or.inr ⟨rfl, Or.inr g⟩, Or.inr ⟨rfl, rfl⟩⟩
  · exact ⟨j, 1, Or.inl ⟨hj, g⟩, Or.inl ⟨hj, rfl⟩⟩
theorem zl_exG (x : Int32) : ∃ gd, gd ≤ 3 ∧ zl_G x gd := by
  rcases pk_ix x (n := 3) (by decide) with g | g | ⟨j, hj, g⟩
  · exact ⟨3, by decide, Or.inr ⟨rfl, Or.inl g⟩⟩
  · exact ⟨3, by decide, Or.inr ⟨rfl, Or.inr g⟩⟩
  · exact ⟨j, by omega, Or.inl ⟨hj, g⟩⟩
def zl_c6 (a b c d e f : Int32) (j : Nat) : Int32 := if j = 1 then a else if j = 2 then b else if j = 3 then c else if j = 4 then d else if j = 5 then e else if j = 6 then f else 0
def zl_pl (kd s y : Nat) (N X W : Int32) (y2 : Nat) (N2 : Int32) (i j : Nat) : Int32 :=
  if i = 3 then (if j = 1 then 3 else 0) else if i = 1 then zl_c6 (nI kd) (nI s) (nI y) N X W j else if i = 2 then zl_c6 1 0 (nI y2) N2 100 0 j
  else if i = 4 then (if j < 4 then zl_c6 (nI kd) (nI s) (nI y) N X W j else 0) else if i = 5 then (if j < 4 then zl_c6 1 0 (nI y2) N2 100 0 j else 0)
  else if 16 ≤ i then (if j = 1 then 5 else if j = 3 then nI (i - 16) else 0) else 0
def zl_sg (kd s y : Nat) (N X W : Int32) (i j : Nat) : Int32 :=
  if i = 1 then (if j = 10 + s then 0 else if j = 6 + s then N else if j = y then (if kd = 0 then X else if kd = 1 then 0 + X else if (0 : Int32) = X then W else 0) else 0) else 0
theorem zl_HH {kd s y : Nat} (hkd : kd < 3) (hs : s < 4) (hy : y < 6) (N X W : Int32) (y2 : Nat) (N2 : Int32) : zq_H (zl_pl kd s y N X W y2 N2) (zl_sg kd s y N X W) := by
  refine ⟨fun j => rfl, ?_, fun j => rfl, ⟨kd, s, y, hkd, hs, hy, rfl, rfl, rfl, fun j _ => rfl⟩, rfl, fun j => rfl, fun j => rfl, fun j => rfl⟩
  intro n j hn
  unfold zl_pl
  rw [if_neg (by omega), if_neg (by omega), if_neg (by omega), if_neg (by omega), if_neg (by omega), if_pos (by omega)]
  have e : 16 + n - 16 = n := by omega
  rw [e]
theorem zl_inc {x : Int32} (h : (x &&& 1) = 0 ∨ ∃ j, j < 8 ∧ x = nI j) : x ≤ x + 1 := by
  have t1 : (1 : Int32).toInt = 1 := by decide
  have b := Int32.toInt_lt x
  have b2 := Int32.le_toInt x
  by_cases e : x.toInt = 2147483647
  · exfalso
    have ex : x = 2147483647 := by
      rw [← Int32.toInt_inj, e]
      decide
    rcases h with g | ⟨j, hj, g⟩
    · rw [ex] at g
      exact absurd g (by decide)
    · rw [g, nI_toInt (by omega)] at e
      omega
  · rw [Int32.le_iff_toInt_le, Int32.toInt_add, t1, Int.bmod_def]
    have e2 : (2 : Nat) ^ 32 = 4294967296 := by decide
    omega
theorem zl_exD (x0 x3 x7 x8 : Int32) (h8 : x8 ≤ x8 + 1) : ∃ gf, gf ≤ 1 ∧ ∃ pl sg, zq_H pl sg ∧ zl_D pl sg x0 x3 x7 x8 gf := by
  by_cases hb : x7 < 0 ∨ 72 ≤ x7 ∨ x8 < 1
  · refine ⟨0, by decide, zl_pl 0 0 0 0 0 0 0 5, zl_sg 0 0 0 0 0 0, zl_HH (by decide) (by decide) (by decide) _ _ _ _ _, Or.inl ⟨rfl, hb, rfl, rfl, rfl, rfl, rfl⟩⟩
  · rcases pk_ix x7 (n := 72) (by decide) with g | g | ⟨j, hj, g⟩
    · exact absurd (Or.inl g) hb
    · exact absurd (Or.inr (Or.inl g)) hb
    · have h1 : ¬ x8 < 1 := fun z => hb (Or.inr (Or.inr z))
      refine ⟨1, by decide, zl_pl (j / 24) (j / 6 % 4) (j % 6) x8 x0 x3 (j % 6) (x8 + 1), zl_sg (j / 24) (j / 6 % 4) (j % 6) x8 x0 x3, zl_HH (by omega) (by omega) (by omega) _ _ _ _ _, Or.inr ⟨rfl, j / 24, j / 6 % 4, j % 6, by omega, by omega, by omega, ?_, h1, h8, rfl, rfl, rfl, rfl, rfl, rfl, ⟨rfl, rfl, rfl, rfl, rfl⟩, fun j _ => rfl⟩⟩
      rw [g]
      apply congrArg nI
      omega
theorem zl_law (x0 x1 x2 x3 : Int32) : wpL_lawOf (fun r _ => r = 1) 100 5000 () x0 x1 x2 x3 := by
  obtain ⟨x5, h5⟩ := zl_sel ((x0 &&& 1) = 0) x0 ((x0 >>> ((1 : Int32) &&& 31)) &&& 7)
  obtain ⟨x6, h6⟩ := zl_sel ((x1 &&& 1) = 0) x1 ((x1 >>> ((1 : Int32) &&& 31)) &&& 3)
  obtain ⟨x7, h7⟩ := zl_sel ((x2 &&& 1) = 0) x2 ((x2 >>> ((1 : Int32) &&& 31)) &&& 127)
  obtain ⟨x8, h8⟩ := zl_sel ((x3 &&& 1) = 0) x3 ((x3 >>> ((1 : Int32) &&& 31)) &&& 7)
  have i8 : x8 ≤ x8 + 1 := by
    apply zl_inc
    rcases h8 with ⟨g, e⟩ | ⟨_, e⟩
    · left
      rw [e]
      exact g
    · right
      obtain ⟨j, hj, ej⟩ := pk_andE (x3 >>> ((1 : Int32) &&& 31)) (m := 7) 3 (by decide)
      exact ⟨j, hj, e.trans ej⟩
  obtain ⟨nd, c9, hN, h9⟩ := zl_exN x5
  obtain ⟨gd, hg, hG⟩ := zl_exG x6
  obtain ⟨gf, hf, pl, sg, H, hD⟩ := zl_exD x0 x3 x7 x8 i8
  unfold wpL_lawOf
  refine ⟨by decide, by decide, 50, 3000, by decide, by decide, ?_⟩
  refine sz_init H ?_ (by decide) (by decide) (zl_evA h9 hg hf)
  intro u m hR h
  obtain ⟨fm0_first, fm0_waiting, fm0_holder, fm0_wrong, b1, b2, b3, b4, b5, b6, b7, b8, b9, b10, b11, b12, b13, b14, b15, b16, b17⟩ := u
  refine zl_br2 (fun v => wL_lawOf_25 (fun r _ => r = 1) 100 5000 x0 x1 x2 x3 v (1 + 50) (21 + 3000) fm0_first fm0_waiting fm0_holder fm0_wrong b1 b2 b3 b4 b5 b6 b7 b8 b9 b10 b11 b12 b13 b14 b15 b16 b17) h5 ?_
  unfold wL_lawOf_25
  refine zl_br2 (fun v => wL_lawOf_42 (fun r _ => r = 1) 100 5000 x0 x1 x2 x3 x5 v (1 + 50) (21 + 3000) fm0_first fm0_waiting fm0_holder fm0_wrong b1 b2 b3 b4 b5 b6 b7 b8 b9 b10 b11 b12 b13 b14 b15 b16 b17) h6 ?_
  unfold wL_lawOf_42
  refine zl_br2 (fun v => wL_lawOf_60 (fun r _ => r = 1) 100 5000 x0 x1 x2 x3 x5 x6 v (1 + 50) (21 + 3000) fm0_first fm0_waiting fm0_holder fm0_wrong b1 b2 b3 b4 b5 b6 b7 b8 b9 b10 b11 b12 b13 b14 b15 b16 b17) h7 ?_
  unfold wL_lawOf_60
  refine zl_br2 (fun v => wL_lawOf_78 (fun r _ => r = 1) 100 5000 x0 x1 x2 x3 x5 x6 x7 v (1 + 50) (21 + 3000) fm0_first fm0_waiting fm0_holder fm0_wrong b1 b2 b3 b4 b5 b6 b7 b8 b9 b10 b11 b12 b13 b14 b15 b16 b17) h8 ?_
  exact sl_78 H rfl hN hG hD h9 hR h
theorem zl_cellAt {post : Int32 → Prop} {L : Nat} {xs : Nat → Int32} {u : St0} {p1 : Int32} {i : Nat} (hL : L ≤ 4) (hp : p1 = nI i) (hi : i < 4) (h : ∀ v, post v) : wpL_cellAt post L xs u p1 := by
  unfold wpL_cellAt
  refine br_c (fun _ => h 0) (fun z => ⟨?_, h _⟩)
  rw [hp] at z ⊢
  have g : i < L := by
    apply Nat.lt_of_not_le
    intro g
    exact z (nI_le g (by omega))
  exact vp_in_nI g (by omega)
theorem i_vc (xs : Nat → Int32) (L : Nat) (hL : L ≤ 4) : wpL_law (fun r => r = 1) L xs := by
  unfold wpL_law
  refine zl_cellAt hL (rfl : (0 : Int32) = nI 0) (by decide) (fun r1 => ?_)
  refine zl_cellAt hL (rfl : (1 : Int32) = nI 1) (by decide) (fun r2 => ?_)
  refine zl_cellAt hL (rfl : (2 : Int32) = nI 2) (by decide) (fun r3 => ?_)
  refine zl_cellAt hL (rfl : (3 : Int32) = nI 3) (by decide) (fun r4 => ?_)
  exact ⟨100, 5000, by decide, by decide, zl_law r1 r2 r3 r4⟩
end
