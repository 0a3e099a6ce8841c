section
/-! rows taken from the kit (BITS, PURE-ROWS) -/
def bt (x : Int32) (i : Nat) : Bool := x.toBitVec.getLsbD i
theorem b_ext {x y : Int32} (h : ∀ i, i < 32 → bt x i = bt y i) : x = y := Int32.toBitVec_inj.mp (BitVec.eq_of_getLsbD_eq (fun i hi => h i hi))
theorem b_or (x y : Int32) (i : Nat) : bt (x ||| y) i = (bt x i || bt y i) := by unfold bt; rw [Int32.toBitVec_or, BitVec.getLsbD_or]
theorem b_and (x y : Int32) (i : Nat) : bt (x &&& y) i = (bt x i && bt y i) := by unfold bt; rw [Int32.toBitVec_and, BitVec.getLsbD_and]
theorem b_big {x : Int32} {i : Nat} (h : 32 ≤ i) : bt x i = false := BitVec.getLsbD_of_ge _ _ h
theorem b_0 (i : Nat) : bt 0 i = false := BitVec.getLsbD_zero
theorem s_l : ∀ n, n < 32 → ((nI n &&& 31).toBitVec.smod 32).toNat = n := by decide +kernel
theorem b_shl (n : Nat) (hn : n < 32) (x : Int32) {i : Nat} (hi : i < 32) : bt (x <<< (nI n &&& 31)) i = (decide (n ≤ i) && bt x (i - n)) := by
  unfold bt
  rw [Int32.toBitVec_shiftLeft]
  show (x.toBitVec <<< ((nI n &&& 31).toBitVec.smod 32).toNat).getLsbD i = _
  rw [s_l n hn, BitVec.getLsbD_shiftLeft]
  rcases Nat.lt_or_ge i n with h | h
  · simp [h, Nat.not_le.mpr h]
  · simp [hi, h, Nat.not_lt.mpr h]
theorem b_sshr (n : Nat) (hn : n < 32) (x : Int32) {i : Nat} (hi : i < 32) : bt (x >>> (nI n &&& 31)) i = if n + i < 32 then bt x (n + i) else bt x 31 := by
  unfold bt
  rw [Int32.toBitVec_shiftRight]
  show (x.toBitVec.sshiftRight ((nI n &&& 31).toBitVec.smod 32).toNat).getLsbD i = _
  rw [s_l n hn, BitVec.getLsbD_sshiftRight, BitVec.msb_eq_getLsbD_last]
  simp [hi]
theorem ts_nf {x : Bool} (h : ¬ x = false) : x = true := by cases x <;> first | rfl | exact absurd rfl h
theorem ts_nt {x : Bool} (h : ¬ x = true) : x = false := by cases x <;> first | rfl | exact absurd rfl h
theorem ts_bit {w : Int64} {s : UInt64} {j : Nat} (hj : j < 64) (hs : s.toNat = j) : ((w.toUInt64 >>> s).toInt64 &&& 1) = 0 ↔ w.toBitVec.getLsbD j = false := by
  have e : (w.toUInt64 >>> s).toInt64.toBitVec = w.toBitVec >>> j := by
    apply BitVec.eq_of_toNat_eq
    show (w.toUInt64 >>> s).toNat = _
    rw [UInt64.toNat_shiftRight, hs, Nat.mod_eq_of_lt hj, BitVec.toNat_ushiftRight]
    rfl
  rw [← Int64.toBitVec_inj, Int64.toBitVec_and, e]
  show w.toBitVec >>> j &&& 1#64 = 0#64 ↔ _
  constructor
  · intro h
    have t := congrArg (fun x => x.getLsbD 0) h
    simpa using t
  · intro h
    apply BitVec.eq_of_getLsbD_eq
    intro i hi
    cases i with
    | zero => simp [h]
    | succ i => simp
theorem wb_tb (n : Nat) : (lN n).toBitVec = BitVec.ofNat 64 n := rfl
theorem wb_inj {a b : Int64} (h : a.toBitVec = b.toBitVec) : a = b := Int64.toBitVec_inj.mp h
theorem wb_tn {n : Nat} (h : n < 2 ^ 64) : (lN n).toBitVec.toNat = n := by rw [wb_tb, BitVec.toNat_ofNat, Nat.mod_eq_of_lt h]
theorem wb_of (x : Int64) : ∃ n, n < 2 ^ 64 ∧ x = lN n := ⟨x.toBitVec.toNat, x.toBitVec.isLt, wb_inj (by rw [wb_tb]; simp)⟩
theorem wb_of32 (x : Int32) : ∃ n, n < 2 ^ 32 ∧ x = nI n := ⟨x.toBitVec.toNat, x.toBitVec.isLt, Int32.toBitVec_inj.mp (by show _ = BitVec.ofNat 32 _; simp)⟩
theorem wb_c : ∀ k, k < 64 → ((nI k).toInt64 &&& 63) = lN k := by decide +kernel
theorem wb_cu : ∀ k, k < 64 → ((nI k).toInt64.toUInt64 &&& Int64.toUInt64 63) = UInt64.ofNat k := by decide +kernel
theorem wb_sm : ∀ k, k < 64 → (BitVec.ofNat 64 k).smod 64 = BitVec.ofNat 64 k := by decide +kernel
theorem wb_pw {a b : Nat} (h : a ≤ b) : 2 ^ b = 2 ^ a * 2 ^ (b - a) := by rw [← Nat.pow_add]; congr 1; omega
theorem wb_lt2 {a b : Nat} (h : a < b) : 2 ^ a < 2 ^ b := Nat.pow_lt_pow_right (by decide) h
theorem wb_mod (n : Nat) : lN n = lN (n % 2 ^ 64) := wb_inj (by rw [wb_tb, wb_tb]; apply BitVec.eq_of_toNat_eq; rw [BitVec.toNat_ofNat, BitVec.toNat_ofNat, Nat.mod_mod])
theorem wb_shr {n k : Nat} (hn : n < 2 ^ 64) (hk : k < 64) : ((lN n).toUInt64 >>> ((nI k).toInt64.toUInt64 &&& Int64.toUInt64 63)).toInt64 = lN (n / 2 ^ k) := by
  rw [wb_cu k hk]
  apply wb_inj
  apply BitVec.eq_of_toNat_eq
  show ((lN n).toUInt64 >>> UInt64.ofNat k).toNat = (BitVec.ofNat 64 _).toNat
  have h1 : (UInt64.ofNat k).toNat = k := by
    show (BitVec.ofNat 64 k).toNat = k
    rw [BitVec.toNat_ofNat, Nat.mod_eq_of_lt (by omega)]
  have h2 : (lN n).toUInt64.toNat = n := wb_tn hn
  rw [UInt64.toNat_shiftRight, h1, h2, Nat.mod_eq_of_lt hk, Nat.shiftRight_eq_div_pow, BitVec.toNat_ofNat, Nat.mod_eq_of_lt (Nat.lt_of_le_of_lt (Nat.div_le_self _ _) hn)]
theorem wb_shl (n : Nat) {k : Nat} (hk : k < 64) : lN n <<< ((nI k).toInt64 &&& 63) = lN (n * 2 ^ k) := by
  rw [wb_c k hk]
  apply wb_inj
  rw [Int64.toBitVec_shiftLeft, wb_tb, wb_tb, wb_tb, wb_sm k hk]
  apply BitVec.eq_of_toNat_eq
  rw [BitVec.shiftLeft_eq', BitVec.toNat_shiftLeft, BitVec.toNat_ofNat, BitVec.toNat_ofNat, BitVec.toNat_ofNat, Nat.mod_eq_of_lt (show k < 2 ^ 64 by omega), Nat.shiftLeft_eq, Nat.mul_mod, Nat.mod_mod, ← Nat.mul_mod]
theorem wb_and {a b : Nat} (ha : a < 2 ^ 64) (hb : b < 2 ^ 64) : lN a &&& lN b = lN (a &&& b) := by
  apply wb_inj
  rw [Int64.toBitVec_and, wb_tb, wb_tb, wb_tb]
  apply BitVec.eq_of_toNat_eq
  rw [BitVec.toNat_and, BitVec.toNat_ofNat, BitVec.toNat_ofNat, BitVec.toNat_ofNat, Nat.mod_eq_of_lt ha, Nat.mod_eq_of_lt hb, Nat.mod_eq_of_lt (Nat.and_lt_two_pow _ hb)]
theorem wb_or {a b : Nat} (ha : a < 2 ^ 64) (hb : b < 2 ^ 64) : lN a ||| lN b = lN (a ||| b) := by
  apply wb_inj
  rw [Int64.toBitVec_or, wb_tb, wb_tb, wb_tb]
  apply BitVec.eq_of_toNat_eq
  rw [BitVec.toNat_or, BitVec.toNat_ofNat, BitVec.toNat_ofNat, BitVec.toNat_ofNat, Nat.mod_eq_of_lt ha, Nat.mod_eq_of_lt hb, Nat.mod_eq_of_lt (Nat.or_lt_two_pow ha hb)]
theorem wb_mask {n k : Nat} (hn : n < 2 ^ 64) (hk : k < 64) : lN n &&& lN (2 ^ k - 1) = lN (n % 2 ^ k) := by
  rw [wb_and hn (by have := wb_lt2 hk; omega), Nat.and_two_pow_sub_one_eq_mod]
theorem wb_a1 {n : Nat} (hn : n < 2 ^ 64) : lN n &&& 1 = lN (n % 2) := wb_mask (k := 1) hn (by decide)
theorem wb_bit {n k : Nat} (hn : n < 2 ^ 64) (hk : k < 64) : ((lN n).toUInt64 >>> ((nI k).toInt64.toUInt64 &&& Int64.toUInt64 63)).toInt64 &&& 1 = lN (n / 2 ^ k % 2) := by
  rw [wb_shr hn hk, wb_a1 (Nat.lt_of_le_of_lt (Nat.div_le_self _ _) hn)]
theorem pk_us {f : Nat → Int32} {k : Nat} {x : Int32} : upd f k x k = x := if_pos rfl
theorem pk_un {f : Nat → Int32} {k j : Nat} {x : Int32} (h : j ≠ k) : upd f k x j = f j := if_neg h
theorem pk_nb (z : Int32) : narrow .byte (.int z.toInt8.toInt32) = .int z.toInt8.toInt32 := congrArg Value.int (by simp)
theorem pk_vb (z : Int32) : vp_nar .byte z.toInt8.toInt32 = z.toInt8.toInt32 := by rw [vp_nar_byte]; simp
end
section
/-! an Int32 by its integer: zI; a Prop as 0 or 1: zB -/
def zI (z : Int) : Int32 := Int32.ofInt z
theorem zI_add (a b : Int) : zI a + zI b = zI (a + b) := (Int32.ofInt_add a b).symm
theorem zI_sub (a b : Int) : zI a - zI b = zI (a - b) := (Int32.ofInt_sub a b).symm
theorem zI_mul (a b : Int) : zI a * zI b = zI (a * b) := (Int32.ofInt_mul a b).symm
theorem zI_neg (a : Int) : -zI a = zI (-a) := (Int32.ofInt_neg a).symm
theorem zI_toInt {a : Int} (h : -2147483648 ≤ a ∧ a ≤ 2147483647) : (zI a).toInt = a := Int32.toInt_ofInt_of_le (by omega) (by omega)
theorem zI_of (x : Int32) : x = zI x.toInt := (Int32.ofInt_toInt x).symm
theorem zI_ofB (x : Int32) : ∃ a : Int, (-2147483648 ≤ a ∧ a ≤ 2147483647) ∧ x = zI a :=
  ⟨x.toInt, ⟨by have := x.le_toInt; omega, by have := x.toInt_lt; omega⟩, zI_of x⟩
theorem zI_le {a b : Int} (ha : -2147483648 ≤ a ∧ a ≤ 2147483647) (hb : -2147483648 ≤ b ∧ b ≤ 2147483647) : zI a ≤ zI b ↔ a ≤ b := by
  rw [Int32.le_iff_toInt_le, zI_toInt ha, zI_toInt hb]
theorem zI_lt {a b : Int} (ha : -2147483648 ≤ a ∧ a ≤ 2147483647) (hb : -2147483648 ≤ b ∧ b ≤ 2147483647) : zI a < zI b ↔ a < b := by
  rw [Int32.lt_iff_toInt_lt, zI_toInt ha, zI_toInt hb]
theorem zI_eq {a b : Int} (ha : -2147483648 ≤ a ∧ a ≤ 2147483647) (hb : -2147483648 ≤ b ∧ b ≤ 2147483647) : zI a = zI b ↔ a = b := by
  rw [← Int32.toInt_inj, zI_toInt ha, zI_toInt hb]
theorem zI_n (n : Nat) : nI n = zI (n : Int) := (Int32.ofInt_eq_ofNat).symm
theorem zI_cl {n : Nat} (h : n ≤ 2147483647) : (zI (n : Int)).toNatClampNeg = n := by rw [← zI_n]; exact nI_clamp (by omega)
theorem zI_in {n N : Nat} (h : n < N) (hn : n ≤ 2147483647) : vp_in (zI (n : Int)) N := vp_in_iff.mpr (by rw [zI_toInt (by omega)]; omega)
theorem zI_inI {a : Int} {N : Nat} (h : 0 ≤ a ∧ a < N) (hn : a ≤ 2147483647) : vp_in (zI a) N := vp_in_iff.mpr (by rw [zI_toInt (by omega)]; omega)
theorem zI_clI {a : Int} (h : 0 ≤ a ∧ a ≤ 2147483647) : (zI a).toNatClampNeg = a.toNat := by
  obtain ⟨n, rfl⟩ := Int.eq_ofNat_of_zero_le h.1
  rw [zI_cl (by omega)]; rfl
theorem zI_mn : Int32.minValue.toInt = -2147483648 := by decide
theorem zI_mx : Int32.maxValue.toInt = 2147483647 := by decide
theorem zI_div {a b : Int} (ha : -2147483648 ≤ a ∧ a ≤ 2147483647) (hb : -2147483648 ≤ b ∧ b ≤ 2147483647) : zI a / zI b = zI (a.tdiv b) :=
  (Int32.ofInt_tdiv (by rw [zI_mn]; exact ha.1) (by rw [zI_mx]; exact ha.2) (by rw [zI_mn]; exact hb.1) (by rw [zI_mx]; exact hb.2)).symm
theorem zT_m (a b : Int) : a - a.tdiv b * b = a.tmod b := by rw [Int.tmod_def, Int.mul_comm]
theorem zT_dn (a d : Nat) : (a : Int).tdiv (d : Int) = ((a / d : Nat) : Int) := (Int.ofNat_tdiv a d).symm
theorem zT_mn (a d : Nat) : (a : Int) - ((a / d : Nat) : Int) * (d : Int) = ((a % d : Nat) : Int) := by
  have h := Nat.div_add_mod' a d
  have h2 : ((a / d * d + a % d : Nat) : Int) = (a : Int) := by rw [h]
  rw [Int.natCast_add, Int.natCast_mul] at h2
  omega
theorem zI_dn {a d : Nat} (ha : a ≤ 2147483647) (hd : d ≤ 2147483647) : zI (a : Int) / zI (d : Int) = zI ((a / d : Nat) : Int) := by
  rw [zI_div (by omega) (by omega), zT_dn]
theorem zI_rn {a d : Nat} : zI (a : Int) - zI ((a / d : Nat) : Int) * zI (d : Int) = zI ((a % d : Nat) : Int) := by
  rw [zI_mul, zI_sub, zT_mn]
theorem z_0 : (0 : Int32) = zI 0 := by decide
theorem z_1 : (1 : Int32) = zI 1 := by decide
theorem z_2 : (2 : Int32) = zI 2 := by decide
theorem z_3 : (3 : Int32) = zI 3 := by decide
theorem z_4 : (4 : Int32) = zI 4 := by decide
theorem z_5 : (5 : Int32) = zI 5 := by decide
theorem z_6 : (6 : Int32) = zI 6 := by decide
theorem z_8 : (8 : Int32) = zI 8 := by decide
theorem z_9 : (9 : Int32) = zI 9 := by decide
theorem z_31 : (31 : Int32) = zI 31 := by decide
theorem z_32 : (32 : Int32) = zI 32 := by decide
theorem z_40 : (40 : Int32) = zI 40 := by decide
theorem z_45 : (45 : Int32) = zI 45 := by decide
theorem z_m1 : (-1 : Int32) = zI (-1) := by decide
theorem z_m3 : (-3 : Int32) = zI (-3) := by decide
theorem z_m4 : (-4 : Int32) = zI (-4) := by decide
theorem z_m40 : (-40 : Int32) = zI (-40) := by decide
theorem z_a31n : ∀ n : Nat, n < 32 → nI n &&& 31 = nI n := by decide +kernel
theorem z_a31 {a : Int} (h : 0 ≤ a ∧ a ≤ 31) : zI a &&& 31 = zI a := by
  obtain ⟨n, rfl⟩ := Int.eq_ofNat_of_zero_le h.1
  rw [← zI_n]; exact z_a31n n (by omega)
noncomputable def zB (p : Prop) : Int32 := @ite Int32 p (Classical.propDecidable p) (zI 1) (zI 0)
theorem zB_t {p : Prop} (h : p) : zB p = zI 1 := by unfold zB; exact if_pos h
theorem zB_f {p : Prop} (h : ¬ p) : zB p = zI 0 := by unfold zB; exact if_neg h
theorem zB_c {p q : Prop} (h : p ↔ q) : zB p = zB q := by rw [propext h]
theorem zB_n (p : Prop) : narrow .boolean (.int (zB p)) = .int (zB p) := by
  rcases Classical.em p with h | h
  · rw [zB_t h]; rfl
  · rw [zB_f h]; rfl
theorem z_10 : ¬ zI 1 = zI 0 := by decide
theorem zB_br {p A B : Prop} (hf : ¬ p → A) (ht : p → B) : (zB p = zI 0 → A) ∧ (¬ zB p = zI 0 → B) := by
  rcases Classical.em p with h | h
  · rw [zB_t h]; exact ⟨fun e => absurd e z_10, fun _ => ht h⟩
  · rw [zB_f h]; exact ⟨fun _ => hf h, fun e => absurd rfl e⟩
theorem zB_1 {p : Prop} : zB p = zI 1 ↔ p := by
  rcases Classical.em p with h | h
  · rw [zB_t h]; exact ⟨fun _ => h, fun _ => rfl⟩
  · rw [zB_f h]; exact ⟨fun e => absurd e.symm z_10, fun e => absurd e h⟩
theorem zB_0 {p : Prop} : zB p = zI 0 ↔ ¬ p := by
  rcases Classical.em p with h | h
  · rw [zB_t h]; exact ⟨fun e => absurd e z_10, fun e => absurd h e⟩
  · rw [zB_f h]; exact ⟨fun _ => h, fun _ => rfl⟩
theorem zB_01 (p : Prop) : zB p = zI 0 ∨ zB p = zI 1 := by
  rcases Classical.em p with h | h
  · exact Or.inr (zB_t h)
  · exact Or.inl (zB_f h)
theorem z_rw {α : Sort _} {P : α → Prop} {a b : α} (e : a = b) (h : P a) : P b := e ▸ h
/-- a product's bounds -/
theorem z_mb {a b : Int} (X Y : Nat) (ha : -(X : Int) ≤ a ∧ a ≤ X) (hb : -(Y : Int) ≤ b ∧ b ≤ Y) : -((X * Y : Nat) : Int) ≤ a * b ∧ a * b ≤ ((X * Y : Nat) : Int) := by
  have h1 : a.natAbs ≤ X := by omega
  have h2 : b.natAbs ≤ Y := by omega
  have h3 : (a * b).natAbs ≤ X * Y := by rw [Int.natAbs_mul]; exact Nat.mul_le_mul h1 h2
  omega
theorem z_tdb (a b : Int) : (a.tdiv b).natAbs ≤ a.natAbs := Int.natAbs_tdiv_le_natAbs a b
theorem z_tmb (a b : Int) : (a.tmod b).natAbs ≤ a.natAbs := by rw [Int.natAbs_tmod]; exact Nat.mod_le _ _
theorem z_byte {a : Int} (h : -128 ≤ a ∧ a < 128) : vp_nar .byte (zI a).toInt8.toInt32 = zI a := by
  rw [pk_vb]; exact lg_i2b_small (by rw [zI_toInt (by omega)]; exact h.1) (by rw [zI_toInt (by omega)]; exact h.2)
end
section
/-! one abstract state for both sides -/
abbrev Cf := Nat × Nat × Int × Int × Int × Int × (Nat → Int) × (Nat → Int) × (Nat → Int) × (Nat → Nat) × (Nat → Nat) × (Nat → Nat) × (Nat → Nat) × (Nat → Nat)
def kN (c : Cf) : Nat := c.1
def km (c : Cf) : Nat := c.2.1
def kP (c : Cf) : Int := c.2.2.1
def kQ (c : Cf) : Int := c.2.2.2.1
def kR (c : Cf) : Int := c.2.2.2.2.1
def kS (c : Cf) : Int := c.2.2.2.2.2.1
def kA (c : Cf) : Nat → Int := c.2.2.2.2.2.2.1
def kB (c : Cf) : Nat → Int := c.2.2.2.2.2.2.2.1
def kC (c : Cf) : Nat → Int := c.2.2.2.2.2.2.2.2.1
def kO (c : Cf) : Nat → Nat := c.2.2.2.2.2.2.2.2.2.1
def kD (c : Cf) : Nat → Nat := c.2.2.2.2.2.2.2.2.2.2.1
def kL (c : Cf) : Nat → Nat := c.2.2.2.2.2.2.2.2.2.2.2.1
def kG (c : Cf) : Nat → Nat := c.2.2.2.2.2.2.2.2.2.2.2.2.1
def kY (c : Cf) : Nat → Nat := c.2.2.2.2.2.2.2.2.2.2.2.2.2
def jA (c : Cf) : Nat → Int32 := fun k => zI (kA c k)
def jB (c : Cf) : Nat → Int32 := fun k => zI (kB c k)
def jC (c : Cf) : Nat → Int32 := fun k => zI (kC c k)
def jO (c : Cf) : Nat → Int32 := fun k => zI (kO c k)
def jD (c : Cf) : Nat → Int32 := fun k => zI (kD c k)
def jL (c : Cf) : Nat → Int32 := fun k => zI (kL c k)
def jG (c : Cf) : Nat → Int32 := fun k => zI (kG c k)
def jY (c : Cf) : Nat → Int32 := fun k => zI (kY c k)
theorem jA_e (c : Cf) (k : Nat) : jA c k = zI (kA c k) := rfl
theorem jB_e (c : Cf) (k : Nat) : jB c k = zI (kB c k) := rfl
theorem jC_e (c : Cf) (k : Nat) : jC c k = zI (kC c k) := rfl
theorem jO_e (c : Cf) (k : Nat) : jO c k = zI (kO c k) := rfl
theorem jD_e (c : Cf) (k : Nat) : jD c k = zI (kD c k) := rfl
theorem jL_e (c : Cf) (k : Nat) : jL c k = zI (kL c k) := rfl
theorem jG_e (c : Cf) (k : Nat) : jG c k = zI (kG c k) := rfl
theorem jY_e (c : Cf) (k : Nat) : jY c k = zI (kY c k) := rfl
abbrev XS (c : Cf) (kn : Int32) (T : Int64) (lo hi : Int32) (M : Nat → Int32) : SX := (zI (kN c), zI (km c), zI (kP c), zI (kQ c), zI (kR c), zI (kS c), kn, T, lo, hi, M, jA c, jB c, jC c, jO c, jD c, jL c, jG c)
abbrev YS (c : Cf) (M near : Nat → Int32) : SY := (zI (kN c), zI (km c), zI (kP c), zI (kQ c), zI (kR c), zI (kS c), M, jA c, jB c, jC c, jO c, jD c, jL c, jY c, near)
/-- the cell of access k in iteration (i, j) -/
def kl (c : Cf) (k : Nat) (i j : Int) : Int := kA c k * i + kB c k * j + kC c k
/-- what every turn keeps -/
def OKn (c : Cf) : Prop := 1 ≤ kN c ∧ kN c ≤ 5 ∧ km c ≤ 3
def OKt (c : Cf) : Prop := (-3 ≤ kP c ∧ kP c ≤ 3) ∧ (-3 ≤ kQ c ∧ kQ c ≤ 3) ∧ (-3 ≤ kR c ∧ kR c ≤ 3) ∧ (-3 ≤ kS c ∧ kS c ≤ 3) ∧ (kP c * kS c - kQ c * kR c = 1 ∨ kP c * kS c - kQ c * kR c = -1)
def OKa (c : Cf) : Prop := ∀ k, (-3 ≤ kA c k ∧ kA c k ≤ 5) ∧ (-3 ≤ kB c k ∧ kB c k ≤ 5) ∧ (0 ≤ kC c k ∧ kC c k ≤ 31) ∧ ∀ i j : Int, 0 ≤ i → i < kN c → 0 ≤ j → j < kN c → 0 ≤ kl c k i j ∧ kl c k i j ≤ 31
def OKs (c : Cf) : Prop := ∀ t, kO c t ≤ 2 ∧ kD c t < 6 ∧ kL c t < 6 ∧ kG c t < 6 ∧ kY c t < 6 ∧ (kO c t = 2 → kG c t = kL c t) ∧ (kO c t ≠ 2 → kG c t = kY c t)
def OK (c : Cf) : Prop := OKn c ∧ OKt c ∧ OKa c ∧ OKs c
theorem OK_n {c : Cf} (h : OK c) : 1 ≤ kN c ∧ kN c ≤ 5 ∧ km c ≤ 3 := h.1
theorem OK_t {c : Cf} (h : OK c) : OKt c := h.2.1
theorem OK_a {c : Cf} (h : OK c) : OKa c := h.2.2.1
theorem OK_s {c : Cf} (h : OK c) : OKs c := h.2.2.2
/-- access k in some iteration and access l in the one at distance (x, y) name one cell -/
def MT (c : Cf) (k l : Nat) (x y : Int) : Prop := ∃ i j : Int, 0 ≤ i ∧ i < kN c ∧ 0 ≤ j ∧ j < kN c ∧ 0 ≤ i + x ∧ i + x < kN c ∧ 0 ≤ j + y ∧ j + y < kN c ∧ kl c k i j = kl c l (i + x) (j + y)
def RL (c : Cf) (k l : Nat) (x y : Int) : Prop := (0 < x ∨ 0 < y) ∧ (MT c k l x y ∨ MT c l k x y)
def TD (c : Cf) (x y : Int) : Prop := ∃ w t : Nat, w < km c ∧ t < km c ∧ (RL c (kD c w) (kD c t) x y ∨ RL c (kD c w) (kL c t) x y ∨ RL c (kD c w) (kG c t) x y)
/-- bit b of a long -/
def tb (T : Int64) (b : Nat) : Prop := T.toBitVec.getLsbD b = true
/-- the long holds the distances -/
def TG (c : Cf) (T : Int64) : Prop := ∀ x y : Int, 0 ≤ x → x ≤ 4 → -4 ≤ y → y ≤ 4 → (tb T (9 * x + y + 4).toNat ↔ TD c x y)
/-- the cell of access k in iteration e -/
def ce (c : Cf) (k e : Nat) : Int := kl c k (e / kN c : Nat) (e % kN c : Nat)
def RC (c : Cf) (e f : Nat) : Prop := ∃ w t : Nat, w < km c ∧ t < km c ∧ (ce c (kD c t) f = ce c (kD c w) e ∨ ce c (kL c t) f = ce c (kD c w) e ∨ ce c (kG c t) f = ce c (kD c w) e)
def TC (c : Cf) (e f : Nat) : Prop := RC c e f ∨ RC c f e
def kU (c : Cf) (e : Nat) : Int := kP c * (e / kN c : Nat) + kQ c * (e % kN c : Nat)
def kV (c : Cf) (e : Nat) : Int := kR c * (e / kN c : Nat) + kS c * (e % kN c : Nat)
def BF (c : Cf) (e f : Nat) : Prop := kU c e < kU c f ∨ kU c e = kU c f ∧ kV c e < kV c f
end
section
/-! X: meets -/
def xmR (a b cc fs ls i : Int) : Prop := ∃ j : Int, fs ≤ j ∧ j ≤ ls ∧ b * j = cc - a * i
def xmD (N a b cc x fs ls i : Int) : Prop := ∃ i' : Int, i ≤ i' ∧ i' + x < N ∧ xmR a b cc fs ls i'
theorem xmR_0 {a b cc fs ls i : Int} (hb : b = 0) : xmR a b cc fs ls i ↔ (cc - a * i = 0 ∧ ¬ ls < fs) := by
  subst hb
  constructor
  · rintro ⟨j, h1, h2, h3⟩
    rw [Int.zero_mul] at h3
    exact ⟨h3.symm, by omega⟩
  · rintro ⟨h1, h2⟩
    exact ⟨fs, Int.le_refl _, by omega, by rw [Int.zero_mul]; exact h1.symm⟩
theorem xmR_1 {a b cc fs ls i : Int} (hb : ¬ b = 0) : xmR a b cc fs ls i ↔ ((cc - a * i).tmod b = 0 ∧ ¬ (cc - a * i).tdiv b < fs ∧ ¬ ls < (cc - a * i).tdiv b) := by
  constructor
  · rintro ⟨j, h1, h2, h3⟩
    have h4 : (cc - a * i).tmod b = 0 := by rw [← h3]; exact Int.mul_tmod_right b j
    have h5 : (cc - a * i).tdiv b = j := by rw [← h3]; exact Int.mul_tdiv_cancel_left j hb
    exact ⟨h4, by omega, by omega⟩
  · rintro ⟨h1, h2, h3⟩
    refine ⟨(cc - a * i).tdiv b, by omega, by omega, ?_⟩
    have h4 := Int.mul_tdiv_add_tmod (cc - a * i) b
    omega
theorem xmD_s {N a b cc x fs ls i : Int} (h : i + x < N) (hn : ¬ xmR a b cc fs ls i) : xmD N a b cc x fs ls i ↔ xmD N a b cc x fs ls (i + 1) := by
  constructor
  · rintro ⟨i', h1, h2, h3⟩
    rcases Int.lt_or_eq_of_le h1 with h4 | h4
    · exact ⟨i', by omega, h2, h3⟩
    · subst h4; exact absurd h3 hn
  · rintro ⟨i', h1, h2, h3⟩
    exact ⟨i', by omega, h2, h3⟩
theorem xmD_x {N a b cc x fs ls i : Int} (h : N ≤ i + x) : ¬ xmD N a b cc x fs ls i := by
  rintro ⟨i', h1, h2, h3⟩
  omega
section
variable (post : Int32 → Prop) (f_size f_p f_q f_r f_s f_known : Int32) (f_touching : Int64) (f_low f_high : Int32) (a_memory a_factorI a_factorJ a_offset a_ops a_targets a_lefts a_rights : Nat → Int32)
theorem xm_106 {N a b cc x fs ls : Int} (hN : 1 ≤ N ∧ N ≤ 5) (ha : -8 ≤ a ∧ a ≤ 8) (hb : -8 ≤ b ∧ b ≤ 8) (hc : -200 ≤ cc ∧ cc ≤ 200) (hx : 0 ≤ x ∧ x ≤ 4) (hf : -10 ≤ fs ∧ fs ≤ 10) (hl : -10 ≤ ls ∧ ls ≤ 10) :
    ∀ (n : Nat) (i : Int), 0 ≤ i ∧ i ≤ 5 → (5 - i).toNat < n → post (zB (xmD N a b cc x fs ls i)) →
    wX_meets_106 post (zI x) (zI a) (zI b) (zI cc) (zI fs) (zI ls) (zI N) f_size f_p f_q f_r f_s f_known f_touching f_low f_high a_memory a_factorI a_factorJ a_offset a_ops a_targets a_lefts a_rights n (zI i) := by
  intro n
  induction n with
  | zero => intro i _ h; omega
  | succ n ih =>
    intro i hi hm hp
    have hz : N ≤ i + x → post (zI 0) := fun h => by rw [← zB_f (xmD_x h)]; exact hp
    have h1 : i + x < N → xmR a b cc fs ls i → post (zI 1) := fun h r => by
      have r' : xmD N a b cc x fs ls i := ⟨i, Int.le_refl _, h, r⟩
      rw [← zB_t r']; exact hp
    have hJ : i + x < N → ¬ xmR a b cc fs ls i → wX_meets_106 post (zI x) (zI a) (zI b) (zI cc) (zI fs) (zI ls) (zI N) f_size f_p f_q f_r f_s f_known f_touching f_low f_high a_memory a_factorI a_factorJ a_offset a_ops a_targets a_lefts a_rights n (zI (i + 1)) := fun h r =>
      ih (i + 1) (by omega) (by omega) (by rw [← zB_c (xmD_s h r)]; exact hp)
    have hai := z_mb (b := i) 8 5 ha ⟨by omega, by omega⟩
    have hd := z_tdb (cc - a * i) b
    have hmm := z_tmb (cc - a * i) b
    have hd' : -300 ≤ (cc - a * i).tdiv b ∧ (cc - a * i).tdiv b ≤ 300 := by omega
    have hm' : -300 ≤ (cc - a * i).tmod b ∧ (cc - a * i).tmod b ≤ 300 := by omega
    clear hd hmm
    simp (disch := omega) only [wX_meets_106, wX_meets_146, zI_add, zI_sub, zI_mul, zI_neg, zI_div, zT_m, zT_dn, zT_mn, zI_le, zI_lt, zI_eq, zI_cl, z_0, z_1, z_2, z_3, z_4, z_5, z_6, z_8, z_9, z_31, z_32, z_40, z_45, forall_eq]
    repeat' (first | apply And.intro | intro _)
    all_goals first
      | contradiction
      | exact hz (by omega)
      | exact h1 (by omega) ((xmR_0 (by assumption)).2 (by omega))
      | exact h1 (by omega) ((xmR_1 (by assumption)).2 (by omega))
      | exact hJ (by omega) (fun r => by have := (xmR_0 (by assumption)).1 r; omega)
      | exact hJ (by omega) (fun r => by have := (xmR_1 (by assumption)).1 r; omega)
end
theorem MT_xm {c : Cf} {k l : Nat} {x y fs ls : Int} (hx : 0 ≤ x) (hj : ∀ j : Int, (fs ≤ j ∧ j ≤ ls) ↔ (0 ≤ j ∧ j < kN c ∧ 0 ≤ j + y ∧ j + y < kN c)) :
    MT c k l x y ↔ xmD (kN c) (kA c k - kA c l) (kB c k - kB c l) (kA c l * x + kB c l * y + kC c l - kC c k) x fs ls 0 := by
  have e : ∀ i j : Int, kl c k i j = kl c l (i + x) (j + y) ↔ (kB c k - kB c l) * j = (kA c l * x + kB c l * y + kC c l - kC c k) - (kA c k - kA c l) * i := by
    intro i j
    unfold kl
    rw [Int.mul_add, Int.mul_add, Int.sub_mul, Int.sub_mul]
    omega
  constructor
  · rintro ⟨i, j, h1, h2, h3, h4, h5, h6, h7, h8, h9⟩
    have q := (hj j).2 ⟨h3, h4, h7, h8⟩
    exact ⟨i, h1, h6, j, q.1, q.2, (e i j).1 h9⟩
  · rintro ⟨i, h1, h2, j, h3, h4, h5⟩
    have q := (hj j).1 ⟨h3, h4⟩
    exact ⟨i, j, h1, by omega, q.1, q.2.1, by omega, h2, q.2.2.1, q.2.2.2, (e i j).2 h5⟩
theorem xw_meets {c : Cf} (h : OK c) {k l : Nat} (hk : k < 6) (hl : l < 6) {x y : Int} (hx : 0 ≤ x ∧ x ≤ 4) (hy : -4 ≤ y ∧ y ≤ 4) (post : Int32 → Prop) (kn : Int32) (T : Int64) (lo hi : Int32) (M : Nat → Int32)
    (hp : post (zB (MT c k l x y))) : wpX_meets post (XS c kn T lo hi M) (zI k) (zI l) (zI x) (zI y) := by
  have hn := OK_n h
  have hak := OK_a h k
  have hal := OK_a h l
  have b1 := z_mb (a := kA c l) (b := x) 5 4 ⟨by omega, by omega⟩ ⟨by omega, by omega⟩
  have b2 := z_mb (a := kB c l) (b := y) 5 4 ⟨by omega, by omega⟩ ⟨by omega, by omega⟩
  have ik : vp_in (zI (k : Int)) 6 := zI_in hk (by omega)
  have il : vp_in (zI (l : Int)) 6 := zI_in hl (by omega)
  simp (disch := omega) only [wpX_meets, XS, ik, il, true_and, jA_e, jB_e, jC_e, wX_meets_76, zI_add, zI_sub, zI_mul, zI_neg, zI_div, zT_m, zT_dn, zT_mn, zI_le, zI_lt, zI_eq, zI_cl, z_0, z_1, z_2, z_3, z_4, z_5, z_6, z_8, z_9, z_31, z_32, z_40, z_45, forall_eq]
  repeat' (first | apply And.intro | intro _)
  all_goals first
    | contradiction
    | (refine ⟨6, xm_106 post _ _ _ _ _ _ _ _ _ _ _ _ _ _ _ _ _ (by omega) (by omega) (by omega) (by omega) hx (by omega) (by omega) 6 0 (by omega) (by decide) ?_⟩
       rw [← MT_xm hx.1 (y := y) (fun j => by omega)]
       exact hp)
end
section
/-! bits of the long -/
theorem tb_or (T : Int64) {b b' : Nat} (hb : b < 64) (hb' : b' < 64) : tb (T ||| ((1 : Int64) <<< ((zI (b : Int)).toInt64 &&& 63))) b' ↔ tb T b' ∨ b' = b := by
  have e : ((1 : Int64) <<< ((zI (b : Int)).toInt64 &&& 63)) = lN (2 ^ b) := by
    rw [← zI_n]
    have := wb_shl 1 hb
    rw [Nat.one_mul] at this
    exact this
  unfold tb
  rw [e, Int64.toBitVec_or, BitVec.getLsbD_or, wb_tb, BitVec.getLsbD_ofNat, Nat.testBit_two_pow]
  simp only [Bool.or_eq_true, Bool.and_eq_true, decide_eq_true_eq, hb', true_and]
  constructor
  · rintro (h | h)
    · exact Or.inl h
    · exact Or.inr h.symm
  · rintro (h | h)
    · exact Or.inl h
    · exact Or.inr h.symm
theorem tb_orI (T : Int64) {z : Int} {b' : Nat} (hz : 0 ≤ z ∧ z ≤ 63) (hb' : b' < 64) : tb (T ||| ((1 : Int64) <<< ((zI z).toInt64 &&& 63))) b' ↔ tb T b' ∨ b' = z.toNat := by
  obtain ⟨n, rfl⟩ := Int.eq_ofNat_of_zero_le hz.1
  exact tb_or T (by omega) hb'
theorem tb_get (T : Int64) {z : Int} (hz : 0 ≤ z ∧ z ≤ 63) : ((T.toUInt64 >>> ((zI z).toInt64.toUInt64 &&& Int64.toUInt64 63)).toInt64 &&& 1) = 0 ↔ ¬ tb T z.toNat := by
  obtain ⟨n, rfl⟩ := Int.eq_ofNat_of_zero_le hz.1
  have hn : n < 64 := by omega
  rw [← zI_n]
  rw [ts_bit (j := n) hn (by rw [wb_cu n hn]; exact UInt64.toNat_ofNat_of_lt (Nat.lt_trans hn (by decide)))]
  show _ ↔ ¬ tb T n
  unfold tb
  cases T.toBitVec.getLsbD n <;> simp
theorem tb_val (T : Int64) {n : Nat} (hn : n < 64) : ((((T.toUInt64 >>> ((zI (n : Int)).toInt64.toUInt64 &&& Int64.toUInt64 63)).toInt64) &&& 1).toInt32) = zB (tb T n) := by
  obtain ⟨t, ht, rfl⟩ := wb_of T
  rw [← zI_n, wb_bit ht hn, lN_i]
  have e : tb (lN t) n ↔ t / 2 ^ n % 2 = 1 := by
    unfold tb
    rw [wb_tb, BitVec.getLsbD_ofNat, Nat.testBit_eq_decide_div_mod_eq]
    simp [hn]
  rcases Nat.mod_two_eq_zero_or_one (t / 2 ^ n) with h | h
  · rw [zB_f (by rw [e, h]; decide), h, zI_n]; rfl
  · rw [zB_t (by rw [e, h]), h, zI_n]; rfl
theorem tb_0 (b : Nat) : ¬ tb 0 b := by
  unfold tb
  rw [show ((0 : Int64).toBitVec) = 0#64 from rfl, BitVec.getLsbD_zero]
  decide
theorem xw_has {c : Cf} {x y : Int} (hx : 0 ≤ x ∧ x ≤ 4) (hy : -4 ≤ y ∧ y ≤ 4) (post : Int32 → Prop) (kn : Int32) (T : Int64) (lo hi : Int32) (M : Nat → Int32)
    (hp : post (zB (tb T (9 * x + y + 4).toNat))) : wpX_hasDistance post (XS c kn T lo hi M) (zI x) (zI y) := by
  simp (disch := omega) only [wpX_hasDistance, XS, zI_add, zI_sub, zI_mul, zI_neg, zI_div, zT_m, zT_dn, zT_mn, zI_le, zI_lt, zI_eq, zI_cl, z_0, z_1, z_2, z_3, z_4, z_5, z_6, z_8, z_9, z_31, z_32, z_40, z_45, forall_eq, tb_get]
  refine ⟨fun h => ?_, fun h => ?_⟩
  · rw [zB_f h] at hp; exact hp
  · rw [zB_t (Classical.not_not.mp h)] at hp; exact hp
/-! bits of near -/
theorem tn_1 (x : Int32) : (x &&& 1) = 1 ↔ bt x 0 = true := by
  constructor
  · intro h
    have := congrArg (fun z => bt z 0) h
    simp only [b_and] at this
    rw [show bt 1 0 = true from by decide, Bool.and_true] at this
    exact this
  · intro h
    apply b_ext
    intro i hi
    rw [b_and]
    rcases Nat.eq_zero_or_pos i with h0 | h0
    · subst h0; rw [h]; rfl
    · have e : ∀ i, i < 32 → 0 < i → bt 1 i = false := by decide +kernel
      rw [e i hi h0, Bool.and_false]
theorem tn_get (x : Int32) {f : Nat} (hf : f < 32) : ((x >>> (zI (f : Int) &&& 31)) &&& 1) = 1 ↔ bt x f = true := by
  rw [tn_1, ← zI_n, b_sshr f hf x (by decide), if_pos (by omega)]
  rfl
theorem tn_or (x : Int32) {f g : Nat} (hf : f < 32) (hg : g < 32) : bt (x ||| ((1 : Int32) <<< (zI (f : Int) &&& 31))) g = true ↔ bt x g = true ∨ g = f := by
  rw [b_or, ← zI_n, b_shl f hf 1 hg]
  have e : ∀ i, i < 32 → bt 1 i = decide (i = 0) := by decide +kernel
  rw [e (g - f) (by omega)]
  simp only [Bool.or_eq_true, Bool.and_eq_true, decide_eq_true_eq]
  constructor
  · rintro (h | h)
    · exact Or.inl h
    · exact Or.inr (by omega)
  · rintro (h | h)
    · exact Or.inl h
    · exact Or.inr (by omega)
theorem tn_getZ (x : Int32) {f : Nat} (hf : f < 32) : ((x >>> (zI (f : Int) &&& zI 31)) &&& zI 1) = zI 1 ↔ bt x f = true := by
  rw [← z_31, ← z_1]; exact tn_get x hf
theorem tn_orZ (x : Int32) {f g : Nat} (hf : f < 32) (hg : g < 32) : bt (x ||| (zI 1 <<< (zI (f : Int) &&& zI 31))) g = true ↔ bt x g = true ∨ g = f := by
  rw [← z_31, ← z_1]; exact tn_or x hf hg
theorem z_a31Z {a : Int} (h : 0 ≤ a ∧ a ≤ 31) : zI a &&& zI 31 = zI a := by
  rw [← z_31]; exact z_a31 h
end
section
/-! X: relate, learn -/
theorem MT_b {c : Cf} {k l : Nat} {x y : Int} (h : MT c k l x y) : x < kN c ∧ 1 - kN c ≤ y ∧ y < kN c := by
  obtain ⟨i, j, h1, h2, h3, h4, h5, h6, h7, h8, h9⟩ := h
  omega
theorem RL_b {c : Cf} {k l : Nat} {x y : Int} (h : RL c k l x y) : x < kN c ∧ 1 - kN c ≤ y ∧ y < kN c := by
  rcases h.2 with h | h
  · exact MT_b h
  · exact MT_b h
def xr1 (c : Cf) (k l : Nat) (x y : Int) (T T' : Int64) : Prop := ∀ x0 y0 : Int, 0 ≤ x0 → x0 ≤ 4 → -4 ≤ y0 → y0 ≤ 4 → (tb T' (9 * x0 + y0 + 4).toNat ↔ (tb T (9 * x0 + y0 + 4).toNat ∨ (x0 = x ∧ y ≤ y0 ∧ RL c k l x0 y0)))
def xr2 (c : Cf) (k l : Nat) (x : Int) (T T' : Int64) : Prop := ∀ x0 y0 : Int, 0 ≤ x0 → x0 ≤ 4 → -4 ≤ y0 → y0 ≤ 4 → (tb T' (9 * x0 + y0 + 4).toNat ↔ (tb T (9 * x0 + y0 + 4).toNat ∨ (x ≤ x0 ∧ RL c k l x0 y0)))
theorem xr1_x {c : Cf} {k l : Nat} {x y : Int} {T : Int64} (h : kN c ≤ y) : xr1 c k l x y T T := by
  intro x0 y0 _ _ _ _
  constructor
  · exact Or.inl
  · rintro (h1 | ⟨_, h1, h2⟩)
    · exact h1
    · have := RL_b h2; omega
theorem xr1_n {c : Cf} {k l : Nat} {x y : Int} {T T' : Int64} (hn : ¬ RL c k l x y) (h : xr1 c k l x (y + 1) T T') : xr1 c k l x y T T' := by
  intro x0 y0 a b d e
  rw [h x0 y0 a b d e]
  constructor
  · rintro (h1 | ⟨h1, h2, h3⟩)
    · exact Or.inl h1
    · exact Or.inr ⟨h1, by omega, h3⟩
  · rintro (h1 | ⟨h1, h2, h3⟩)
    · exact Or.inl h1
    · rcases Int.lt_or_eq_of_le h2 with h4 | h4
      · exact Or.inr ⟨h1, by omega, h3⟩
      · subst h1 h4; exact absurd h3 hn
theorem xr1_y {c : Cf} {k l : Nat} {x y : Int} {T T' : Int64} (hx : 0 ≤ x ∧ x ≤ 4) (hy : -4 ≤ y ∧ y ≤ 4) (hn : RL c k l x y) (h : xr1 c k l x (y + 1) (T ||| ((1 : Int64) <<< ((zI (9 * x + y + 4)).toInt64 &&& 63))) T') : xr1 c k l x y T T' := by
  intro x0 y0 a b d e
  rw [h x0 y0 a b d e, tb_orI T (by omega) (by omega)]
  constructor
  · rintro ((h1 | h1) | ⟨h1, h2, h3⟩)
    · exact Or.inl h1
    · have e1 : x0 = x := by omega
      have e2 : y0 = y := by omega
      subst e1 e2
      exact Or.inr ⟨rfl, Int.le_refl _, hn⟩
    · exact Or.inr ⟨h1, by omega, h3⟩
  · rintro (h1 | ⟨h1, h2, h3⟩)
    · exact Or.inl (Or.inl h1)
    · rcases Int.lt_or_eq_of_le h2 with h4 | h4
      · exact Or.inr ⟨h1, by omega, h3⟩
      · subst h1 h4; exact Or.inl (Or.inr rfl)
theorem xr2_x {c : Cf} {k l : Nat} {x : Int} {T : Int64} (h : kN c ≤ x) : xr2 c k l x T T := by
  intro x0 y0 _ _ _ _
  constructor
  · exact Or.inl
  · rintro (h1 | ⟨h1, h2⟩)
    · exact h1
    · have := RL_b h2; omega
theorem xr2_s {c : Cf} {k l : Nat} {x : Int} {T T1 T' : Int64} (h1 : xr1 c k l x (1 - kN c) T T1) (h2 : xr2 c k l (x + 1) T1 T') : xr2 c k l x T T' := by
  intro x0 y0 a b d e
  rw [h2 x0 y0 a b d e, h1 x0 y0 a b d e]
  constructor
  · rintro ((h | ⟨p, q, r⟩) | ⟨p, q⟩)
    · exact Or.inl h
    · exact Or.inr ⟨by omega, r⟩
    · exact Or.inr ⟨by omega, q⟩
  · rintro (h | ⟨p, q⟩)
    · exact Or.inl (Or.inl h)
    · rcases Int.lt_or_eq_of_le p with h4 | h4
      · exact Or.inr ⟨by omega, q⟩
      · exact Or.inl (Or.inr ⟨h4.symm, (RL_b q).2.1, q⟩)
theorem xm_18 {c : Cf} (h : OK c) {k l : Nat} (hk : k < 6) (hl : l < 6) {x : Int} (hx : 0 ≤ x ∧ x ≤ 4) (post : SX → Prop) (J2 : Int32 → Int64 → Prop) (kn : Int32) (lo hi : Int32) (M : Nat → Int32) :
    ∀ (n : Nat) (y : Int) (T : Int64), -4 ≤ y ∧ y ≤ kN c → (kN c - y).toNat < n → (∀ T', xr1 c k l x y T T' → J2 (zI (x + 1)) T') →
    wX_relate_18 post J2 (zI k) (zI l) (zI x) (zI (kN c)) (zI (km c)) (zI (kP c)) (zI (kQ c)) (zI (kR c)) (zI (kS c)) kn lo hi M (jA c) (jB c) (jC c) (jO c) (jD c) (jL c) (jG c) n (zI y) T := by
  have hn := OK_n h
  intro n
  induction n with
  | zero => intro y T _ h; omega
  | succ n ih =>
    intro y T hy hm hp
    have hz : kN c ≤ y → J2 (zI (x + 1)) T := fun q => hp T (xr1_x q)
    have hN : y < kN c → ¬ RL c k l x y → wX_relate_18 post J2 (zI k) (zI l) (zI x) (zI (kN c)) (zI (km c)) (zI (kP c)) (zI (kQ c)) (zI (kR c)) (zI (kS c)) kn lo hi M (jA c) (jB c) (jC c) (jO c) (jD c) (jL c) (jG c) n (zI (y + 1)) T := fun q r =>
      ih (y + 1) T (by omega) (by omega) (fun T' g => hp T' (xr1_n r g))
    have hY : y < kN c → RL c k l x y → wX_relate_18 post J2 (zI k) (zI l) (zI x) (zI (kN c)) (zI (km c)) (zI (kP c)) (zI (kQ c)) (zI (kR c)) (zI (kS c)) kn lo hi M (jA c) (jB c) (jC c) (jO c) (jD c) (jL c) (jG c) n (zI (y + 1)) (T ||| ((1 : Int64) <<< ((zI (9 * x + y + 4)).toInt64 &&& 63))) := fun q r =>
      ih (y + 1) _ (by omega) (by omega) (fun T' g => hp T' (xr1_y hx (by omega) r g))
    have hlater : y < kN c → (0 < x ∨ 0 < y) → wX_relate_41 post J2 (wX_relate_18 post J2 (zI k) (zI l) (zI x) (zI (kN c)) (zI (km c)) (zI (kP c)) (zI (kQ c)) (zI (kR c)) (zI (kS c)) kn lo hi M (jA c) (jB c) (jC c) (jO c) (jD c) (jL c) (jG c) n) (zI k) (zI l) (zI x) (zI y) (zI 1) (zI (kN c)) (zI (km c)) (zI (kP c)) (zI (kQ c)) (zI (kR c)) (zI (kS c)) kn T lo hi M (jA c) (jB c) (jC c) (jO c) (jD c) (jL c) (jG c) := by
      intro q r
      simp (disch := omega) only [wX_relate_41, wX_relate_72, zI_add, zI_sub, zI_mul, zI_neg, zI_div, zT_m, zT_dn, zT_mn, zI_le, zI_lt, zI_eq, zI_cl, z_0, z_1, z_2, z_3, z_4, z_5, z_6, z_8, z_9, z_31, z_32, z_40, z_45, forall_eq]
      refine ⟨fun e => absurd e (by decide), fun _ => ?_⟩
      refine xw_meets h hk hl hx (by omega) _ kn T lo hi M ?_
      refine zB_br (fun m1 => ?_) (fun m1 => hY q ⟨r, Or.inl m1⟩)
      refine xw_meets h hl hk hx (by omega) _ kn T lo hi M ?_
      refine zB_br (fun m2 => hN q ?_) (fun m2 => hY q ⟨r, Or.inr m2⟩)
      rintro ⟨_, g | g⟩
      · exact m1 g
      · exact m2 g
    simp (disch := omega) only [wX_relate_18, wX_relate_36, zI_add, zI_sub, zI_mul, zI_neg, zI_div, zT_m, zT_dn, zT_mn, zI_le, zI_lt, zI_eq, zI_cl, z_0, z_1, z_2, z_3, z_4, z_5, z_6, z_8, z_9, z_31, z_32, z_40, z_45, forall_eq]
    refine ⟨fun q => hz q, fun q => ⟨fun q1 => hlater (by omega) (by omega), fun q1 => ⟨fun q2 => ?_, fun q2 => hlater (by omega) (by omega)⟩⟩⟩
    simp (disch := omega) only [wX_relate_41, zI_add, zI_sub, zI_mul, zI_neg, zI_div, zT_m, zT_dn, zT_mn, zI_le, zI_lt, zI_eq, zI_cl, z_0, z_1, z_2, z_3, z_4, z_5, z_6, z_8, z_9, z_31, z_32, z_40, z_45, forall_eq]
    refine ⟨fun _ => hN (by omega) (fun r => ?_), fun e => absurd trivial e⟩
    have := r.1
    omega
theorem xm_2 {c : Cf} (h : OK c) {k l : Nat} (hk : k < 6) (hl : l < 6) (post : SX → Prop) (kn : Int32) (lo hi : Int32) (M : Nat → Int32) :
    ∀ (n : Nat) (x : Int) (T : Int64), 0 ≤ x ∧ x ≤ kN c → (kN c - x).toNat < n → (∀ T', xr2 c k l x T T' → post (XS c kn T' lo hi M)) →
    wX_relate_2 post (zI k) (zI l) (zI (kN c)) (zI (km c)) (zI (kP c)) (zI (kQ c)) (zI (kR c)) (zI (kS c)) kn lo hi M (jA c) (jB c) (jC c) (jO c) (jD c) (jL c) (jG c) n (zI x) T := by
  have hn := OK_n h
  intro n
  induction n with
  | zero => intro y T _ h; omega
  | succ n ih =>
    intro x T hx hm hp
    simp (disch := omega) only [wX_relate_2, zI_add, zI_sub, zI_mul, zI_neg, zI_div, zT_m, zT_dn, zT_mn, zI_le, zI_lt, zI_eq, zI_cl, z_0, z_1, z_2, z_3, z_4, z_5, z_6, z_8, z_9, z_31, z_32, z_40, z_45, forall_eq]
    refine ⟨fun q => hp T (xr2_x q), fun q => ⟨10, ?_⟩⟩
    refine xm_18 h hk hl (by omega) post _ kn lo hi M 10 _ T (by omega) (by omega) (fun T' g => ?_)
    exact ih (x + 1) T' (by omega) (by omega) (fun T'' g' => hp T'' (xr2_s g g'))
theorem xw_relate {c : Cf} (h : OK c) {k l : Nat} (hk : k < 6) (hl : l < 6) (post : SX → Prop) (kn : Int32) (T : Int64) (lo hi : Int32) (M : Nat → Int32)
    (hp : ∀ T', xr2 c k l 0 T T' → post (XS c kn T' lo hi M)) : wpX_relate post (XS c kn T lo hi M) (zI k) (zI l) := by
  have hn := OK_n h
  exact ⟨6, xm_2 h hk hl post kn lo hi M 6 0 T (by omega) (by omega) hp⟩
def R3 (c : Cf) (w t : Nat) (x y : Int) : Prop := RL c (kD c w) (kD c t) x y ∨ RL c (kD c w) (kL c t) x y ∨ RL c (kD c w) (kG c t) x y
def xr3 (c : Cf) (w t : Nat) (T T' : Int64) : Prop := ∀ x0 y0 : Int, 0 ≤ x0 → x0 ≤ 4 → -4 ≤ y0 → y0 ≤ 4 → (tb T' (9 * x0 + y0 + 4).toNat ↔ (tb T (9 * x0 + y0 + 4).toNat ∨ ∃ t', t ≤ t' ∧ t' < km c ∧ R3 c w t' x0 y0))
def xr4 (c : Cf) (w : Nat) (T T' : Int64) : Prop := ∀ x0 y0 : Int, 0 ≤ x0 → x0 ≤ 4 → -4 ≤ y0 → y0 ≤ 4 → (tb T' (9 * x0 + y0 + 4).toNat ↔ (tb T (9 * x0 + y0 + 4).toNat ∨ ∃ w' t', w ≤ w' ∧ w' < km c ∧ t' < km c ∧ R3 c w' t' x0 y0))
theorem xr3_x {c : Cf} {w t : Nat} {T : Int64} (h : km c ≤ t) : xr3 c w t T T := by
  intro x0 y0 _ _ _ _
  constructor
  · exact Or.inl
  · rintro (h1 | ⟨t', h1, h2, _⟩)
    · exact h1
    · omega
theorem xr3_s {c : Cf} {w t : Nat} {T T1 T2 T3 T' : Int64} (ht : t < km c) (h1 : xr2 c (kD c w) (kD c t) 0 T T1) (h2 : xr2 c (kD c w) (kL c t) 0 T1 T2) (h3 : xr2 c (kD c w) (kG c t) 0 T2 T3) (h4 : xr3 c w (t + 1) T3 T') : xr3 c w t T T' := by
  intro x0 y0 a b d e
  rw [h4 x0 y0 a b d e, h3 x0 y0 a b d e, h2 x0 y0 a b d e, h1 x0 y0 a b d e]
  constructor
  · rintro ((((h | ⟨_, h⟩) | ⟨_, h⟩) | ⟨_, h⟩) | ⟨t', p, q, r⟩)
    · exact Or.inl h
    · exact Or.inr ⟨t, Nat.le_refl _, ht, Or.inl h⟩
    · exact Or.inr ⟨t, Nat.le_refl _, ht, Or.inr (Or.inl h)⟩
    · exact Or.inr ⟨t, Nat.le_refl _, ht, Or.inr (Or.inr h)⟩
    · exact Or.inr ⟨t', by omega, q, r⟩
  · rintro (h | ⟨t', p, q, r⟩)
    · exact Or.inl (Or.inl (Or.inl (Or.inl h)))
    · rcases Nat.lt_or_eq_of_le p with g | g
      · exact Or.inr ⟨t', by omega, q, r⟩
      · subst g
        rcases r with r | r | r
        · exact Or.inl (Or.inl (Or.inl (Or.inr ⟨a, r⟩)))
        · exact Or.inl (Or.inl (Or.inr ⟨a, r⟩))
        · exact Or.inl (Or.inr ⟨a, r⟩)
theorem xr4_x {c : Cf} {w : Nat} {T : Int64} (h : km c ≤ w) : xr4 c w T T := by
  intro x0 y0 _ _ _ _
  constructor
  · exact Or.inl
  · rintro (h1 | ⟨w', t', h1, h2, _⟩)
    · exact h1
    · omega
theorem xr4_s {c : Cf} {w : Nat} {T T1 T' : Int64} (hw : w < km c) (h1 : xr3 c w 0 T T1) (h2 : xr4 c (w + 1) T1 T') : xr4 c w T T' := by
  intro x0 y0 a b d e
  rw [h2 x0 y0 a b d e, h1 x0 y0 a b d e]
  constructor
  · rintro ((h | ⟨t, _, p, q⟩) | ⟨w', t', p, q, r, s⟩)
    · exact Or.inl h
    · exact Or.inr ⟨w, t, Nat.le_refl _, hw, p, q⟩
    · exact Or.inr ⟨w', t', by omega, q, r, s⟩
  · rintro (h | ⟨w', t', p, q, r, s⟩)
    · exact Or.inl (Or.inl h)
    · rcases Nat.lt_or_eq_of_le p with g | g
      · exact Or.inr ⟨w', t', by omega, q, r, s⟩
      · subst g; exact Or.inl (Or.inr ⟨t', Nat.zero_le _, r, s⟩)
theorem xr4_g {c : Cf} {T : Int64} (h : xr4 c 0 0 T) : TG c T := by
  intro x y a b d e
  rw [h x y a b d e]
  constructor
  · rintro (h1 | ⟨w, t, _, p, q, r⟩)
    · exact absurd h1 (tb_0 _)
    · exact ⟨w, t, p, q, r⟩
  · rintro ⟨w, t, p, q, r⟩
    exact Or.inr ⟨w, t, Nat.zero_le _, p, q, r⟩
theorem xm_30 {c : Cf} (h : OK c) {w : Nat} (hw : w < km c) (post : SX → Prop) (J20 : Int32 → Int32 → Int32 → Int32 → Int32 → Int32 → Int32 → Int32 → Int64 → Int32 → Int32 → (Nat → Int32) → (Nat → Int32) → (Nat → Int32) → (Nat → Int32) → (Nat → Int32) → (Nat → Int32) → (Nat → Int32) → (Nat → Int32) → Prop) (kn : Int32) (lo hi : Int32) (M : Nat → Int32) :
    ∀ (n t : Nat) (T : Int64), t ≤ km c → km c - t < n → (∀ T', xr3 c w t T T' → J20 (zI (w + 1)) (zI (kN c)) (zI (km c)) (zI (kP c)) (zI (kQ c)) (zI (kR c)) (zI (kS c)) kn T' lo hi M (jA c) (jB c) (jC c) (jO c) (jD c) (jL c) (jG c)) →
    wX_learn_30 post J20 (zI w) n (zI t) (zI (kN c)) (zI (km c)) (zI (kP c)) (zI (kQ c)) (zI (kR c)) (zI (kS c)) kn T lo hi M (jA c) (jB c) (jC c) (jO c) (jD c) (jL c) (jG c) := by
  have hn := OK_n h
  intro n
  induction n with
  | zero => intro y T _ h; omega
  | succ n ih =>
    intro t T ht hm hp
    have iw : vp_in (zI (w : Int)) 3 := zI_in (by omega) (by omega)
    have ew : (zI (w : Int)).toNatClampNeg = w := zI_cl (by omega)
    have et : (zI (t : Int)).toNatClampNeg = t := zI_cl (by omega)
    have q1 := OK_s h w
    have q2 := OK_s h t
    refine br_c (fun e => ?_) (fun e => ?_)
    · rw [zI_le (by omega) (by omega)] at e
      refine nm_r (e' := zI (w + 1)) (by rw [z_1, zI_add]) (hp T (xr3_x (by omega)))
    · rw [zI_le (by omega) (by omega)] at e
      have it : vp_in (zI (t : Int)) 3 := zI_in (by omega) (by omega)
      refine ⟨iw, it, ?_⟩
      rw [ew, et, jD_e, jD_e]
      refine xw_relate h q1.2.1 q2.2.1 _ kn T lo hi M (fun T1 g1 => ?_)
      refine ⟨iw, it, ?_⟩
      rw [jD_e, jL_e]
      refine xw_relate h q1.2.1 q2.2.2.1 _ kn T1 lo hi M (fun T2 g2 => ?_)
      refine ⟨iw, it, ?_⟩
      rw [jD_e, jG_e]
      refine xw_relate h q1.2.1 q2.2.2.2.1 _ kn T2 lo hi M (fun T3 g3 => ?_)
      refine nm_r (e' := zI ((t + 1 : Nat) : Int)) (by rw [z_1, zI_add]; rfl) ?_
      exact ih (t + 1) T3 (by omega) (by omega) (fun T' g => hp T' (xr3_s (by omega) g1 g2 g3 g))
theorem xm_20 {c : Cf} (h : OK c) (post : SX → Prop) (kn : Int32) (lo hi : Int32) (M : Nat → Int32) :
    ∀ (n w : Nat) (T : Int64), w ≤ km c → km c - w < n → (∀ T', xr4 c w T T' → post (XS c kn T' lo hi M)) →
    wX_learn_20 post n (zI w) (zI (kN c)) (zI (km c)) (zI (kP c)) (zI (kQ c)) (zI (kR c)) (zI (kS c)) kn T lo hi M (jA c) (jB c) (jC c) (jO c) (jD c) (jL c) (jG c) := by
  have hn := OK_n h
  intro n
  induction n with
  | zero => intro y T _ h; omega
  | succ n ih =>
    intro w T hw hm hp
    refine br_c (fun e => ?_) (fun e => ?_)
    · rw [zI_le (by omega) (by omega)] at e
      exact hp T (xr4_x (by omega))
    · rw [zI_le (by omega) (by omega)] at e
      refine ⟨4, xm_30 h (by omega) post _ kn lo hi M 4 0 T (by omega) (by omega) (fun T' g => ?_)⟩
      exact ih (w + 1) T' (by omega) (by omega) (fun T'' g' => hp T'' (xr4_s (by omega) g g'))
/-- the long, once it is known, holds the distances -/
def KG (c : Cf) (kn : Int32) (T : Int64) : Prop := kn = 0 ∨ TG c T
theorem xw_learn {c : Cf} (h : OK c) (post : SX → Prop) (kn : Int32) (T : Int64) (lo hi : Int32) (M : Nat → Int32) (hk : KG c kn T)
    (hp : ∀ kn' T', TG c T' → post (XS c kn' T' lo hi M)) : wpX_learn post (XS c kn T lo hi M) := by
  have hn := OK_n h
  refine br_c (fun e => ⟨4, ?_⟩) (fun e => ?_)
  · exact xm_20 h post 1 lo hi M 4 0 0 (by omega) (by omega) (fun T' g => hp 1 T' (xr4_g g))
  · rcases hk with hk | hk
    · exact absurd hk e
    · exact hp kn T hk
end
section
/-! X: legal, distances, distance, anyDistance -/
noncomputable def zN (p : Prop) : Nat := @ite Nat p (Classical.propDecidable p) 1 0
theorem zN_t {p : Prop} (h : p) : zN p = 1 := by unfold zN; exact if_pos h
theorem zN_f {p : Prop} (h : ¬ p) : zN p = 0 := by unfold zN; exact if_neg h
theorem zN_c {p q : Prop} (h : p ↔ q) : zN p = zN q := by rw [propext h]
theorem zB_N (p : Prop) : zB p = zI (zN p : Int) := by
  rcases Classical.em p with h | h
  · rw [zB_t h, zN_t h]; rfl
  · rw [zB_f h, zN_f h]; rfl
/-- how many below k -/
noncomputable def cn (p : Nat → Prop) : Nat → Nat
  | 0 => 0
  | k + 1 => cn p k + zN (p k)
theorem cn_s (p : Nat → Prop) (k : Nat) : cn p (k + 1) = cn p k + zN (p k) := rfl
theorem cn_le (p : Nat → Prop) : ∀ k, cn p k ≤ k := by
  intro k
  induction k with
  | zero => exact Nat.le_refl _
  | succ k ih =>
    rw [cn]
    rcases Classical.em (p k) with h | h
    · rw [zN_t h]; omega
    · rw [zN_f h]; omega
theorem cn_c {p q : Nat → Prop} : ∀ k, (∀ e, e < k → (p e ↔ q e)) → cn p k = cn q k := by
  intro k
  induction k with
  | zero => intro _; rfl
  | succ k ih =>
    intro h
    rw [cn, cn, ih (fun e he => h e (by omega)), zN_c (h k (by omega))]
def xBad (c : Cf) (x y : Int) : Prop := TD c x y ∧ (kP c * x + kQ c * y < 0 ∨ kP c * x + kQ c * y = 0 ∧ kR c * x + kS c * y < 0)
def lg1 (c : Cf) (x y : Int) : Prop := ∀ y', y ≤ y' → y' ≤ 4 → ¬ xBad c x y'
def lg2 (c : Cf) (x : Int) : Prop := ∀ x' y', x ≤ x' → x' ≤ 4 → -4 ≤ y' → y' ≤ 4 → ¬ xBad c x' y'
theorem lg1_s {c : Cf} {x y : Int} (h : y ≤ 4) : lg1 c x y ↔ (¬ xBad c x y ∧ lg1 c x (y + 1)) := by
  constructor
  · intro g
    exact ⟨g y (Int.le_refl _) h, fun y' a b => g y' (by omega) b⟩
  · rintro ⟨g1, g2⟩ y' a b
    rcases Int.lt_or_eq_of_le a with e | e
    · exact g2 y' (by omega) b
    · subst e; exact g1
theorem lg2_s {c : Cf} {x : Int} (h : x ≤ 4) : lg2 c x ↔ (lg1 c x (-4) ∧ lg2 c (x + 1)) := by
  constructor
  · intro g
    exact ⟨fun y' a b => g x y' (Int.le_refl _) h a b, fun x' y' a b d e => g x' y' (by omega) b d e⟩
  · rintro ⟨g1, g2⟩ x' y' a b d e
    rcases Int.lt_or_eq_of_le a with q | q
    · exact g2 x' y' (by omega) b d e
    · subst q; exact g1 y' d e
theorem kt_b {c : Cf} (h : OK c) {x y : Int} (hx : -40 ≤ x ∧ x ≤ 40) (hy : -40 ≤ y ∧ y ≤ 40) : (-120 ≤ kP c * x ∧ kP c * x ≤ 120) ∧ (-120 ≤ kQ c * y ∧ kQ c * y ≤ 120) ∧ (-120 ≤ kR c * x ∧ kR c * x ≤ 120) ∧ (-120 ≤ kS c * y ∧ kS c * y ≤ 120) := by
  have t := OK_t h
  exact ⟨z_mb 3 40 t.1 hx, z_mb 3 40 t.2.1 hy, z_mb 3 40 t.2.2.1 hx, z_mb 3 40 t.2.2.2.1 hy⟩
theorem xm_l14 {c : Cf} (h : OK c) {x : Int} (hx : 0 ≤ x ∧ x ≤ 4) (post : Int32 → SX → Prop) (J6 : Int32 → Prop) (kn : Int32) (T : Int64) (hT : TG c T) (lo hi : Int32) (M : Nat → Int32) :
    ∀ (n : Nat) (y : Int), -4 ≤ y ∧ y ≤ 5 → (5 - y).toNat < n → (¬ lg1 c x y → post (zI 0) (XS c kn T lo hi M)) → (lg1 c x y → J6 (zI (x + 1))) →
    wX_legal_14 post J6 (zI x) (zI (kN c)) (zI (km c)) (zI (kP c)) (zI (kQ c)) (zI (kR c)) (zI (kS c)) kn T lo hi M (jA c) (jB c) (jC c) (jO c) (jD c) (jL c) (jG c) n (zI y) := by
  intro n
  induction n with
  | zero => intro y _ h; omega
  | succ n ih =>
    intro y hy hm hb hg
    have hbd := kt_b h (x := x) (y := y) (by omega) (by omega)
    have hJ : y ≤ 4 → ¬ xBad c x y → wX_legal_14 post J6 (zI x) (zI (kN c)) (zI (km c)) (zI (kP c)) (zI (kQ c)) (zI (kR c)) (zI (kS c)) kn T lo hi M (jA c) (jB c) (jC c) (jO c) (jD c) (jL c) (jG c) n (zI (y + 1)) := fun q r =>
      ih (y + 1) (by omega) (by omega) (fun g => hb (fun g' => g ((lg1_s q).1 g').2)) (fun g => hg ((lg1_s q).2 ⟨r, g⟩))
    have hB : y ≤ 4 → xBad c x y → post (zI 0) (XS c kn T lo hi M) := fun q r => hb (fun g => ((lg1_s q).1 g).1 r)
    have hE : 5 ≤ y → J6 (zI (x + 1)) := fun q => hg (fun y' a b => by omega)
    clear hb hg
    simp (disch := omega) only [wX_legal_14, zI_add, zI_sub, zI_mul, zI_neg, zI_div, zT_m, zT_dn, zT_mn, zI_le, zI_lt, zI_eq, zI_cl, z_0, z_1, z_2, z_3, z_4, z_5, z_6, z_8, z_9, z_31, z_32, z_40, z_45, forall_eq]
    refine ⟨hE, fun q => ?_⟩
    have q' : y ≤ 4 := by omega
    refine xw_has hx (by omega) _ kn T lo hi M ?_
    have hTx := hT x y hx.1 hx.2 (by omega) q'
    refine zB_br (fun r => hJ q' (fun g => r (hTx.2 g.1))) (fun r => ⟨fun e => hB q' ⟨hTx.1 r, Or.inl e⟩, fun e => ⟨fun e1 => ⟨fun e2 => ?_, fun e2 => ?_⟩, fun e1 => ?_⟩⟩)
    · exact hJ q' (fun g => by have := g.2; omega)
    · exact hB q' ⟨hTx.1 r, Or.inr ⟨e1, by omega⟩⟩
    · exact hJ q' (fun g => by have := g.2; omega)
theorem xm_l6 {c : Cf} (h : OK c) (post : Int32 → SX → Prop) (kn : Int32) (T : Int64) (hT : TG c T) (lo hi : Int32) (M : Nat → Int32) :
    ∀ (n : Nat) (x : Int), 0 ≤ x ∧ x ≤ 5 → (5 - x).toNat < n → post (zB (lg2 c x)) (XS c kn T lo hi M) →
    wX_legal_6 post (zI (kN c)) (zI (km c)) (zI (kP c)) (zI (kQ c)) (zI (kR c)) (zI (kS c)) kn T lo hi M (jA c) (jB c) (jC c) (jO c) (jD c) (jL c) (jG c) n (zI x) := by
  intro n
  induction n with
  | zero => intro y _ h; omega
  | succ n ih =>
    intro x hx hm hp
    simp (disch := omega) only [wX_legal_6, zI_add, zI_sub, zI_mul, zI_neg, zI_div, zT_m, zT_dn, zT_mn, zI_le, zI_lt, zI_eq, zI_cl, z_0, z_1, z_2, z_3, z_4, z_5, z_6, z_8, z_9, z_31, z_32, z_40, z_45, forall_eq]
    refine ⟨fun q => ?_, fun q => ⟨10, ?_⟩⟩
    · rw [zB_t (p := lg2 c x) (fun x' y' a b => by omega)] at hp; exact hp
    · have q' : x ≤ 4 := by omega
      refine xm_l14 h (by omega) post _ kn T hT lo hi M 10 (-4) (by omega) (by decide) (fun g => ?_) (fun g => ?_)
      · rw [zB_f (fun g' => g ((lg2_s q').1 g').1)] at hp; exact hp
      · refine ih (x + 1) (by omega) (by omega) ?_
        rw [zB_c (show lg2 c (x + 1) ↔ lg2 c x from ⟨fun g' => (lg2_s q').2 ⟨g, g'⟩, fun g' => ((lg2_s q').1 g').2⟩)]
        exact hp
theorem xw_legal {c : Cf} (h : OK c) (post : Int32 → SX → Prop) (kn : Int32) (T : Int64) (lo hi : Int32) (M : Nat → Int32) (hk : KG c kn T)
    (hp : ∀ kn' T', TG c T' → post (zB (lg2 c 0)) (XS c kn' T' lo hi M)) : wpX_legal post (XS c kn T lo hi M) := by
  unfold wpX_legal
  refine xw_learn h _ kn T lo hi M hk (fun kn' T' hT => ?_)
  exact ⟨6, xm_l6 h post kn' T' hT lo hi M 6 0 (by omega) (by decide) (hp kn' T' hT)⟩
theorem xm_d8 {c : Cf} (post : Int32 → SX → Prop) (kn : Int32) (T : Int64) (lo hi : Int32) (M : Nat → Int32) (hp : post (zI (cn (tb T) 45 : Nat)) (XS c kn T lo hi M)) :
    ∀ (n k : Nat), k ≤ 45 → 45 - k < n → 
    wX_distances_8 post (zI (kN c)) (zI (km c)) (zI (kP c)) (zI (kQ c)) (zI (kR c)) (zI (kS c)) kn T lo hi M (jA c) (jB c) (jC c) (jO c) (jD c) (jL c) (jG c) n (zI (cn (tb T) k : Nat)) (zI k) := by
  intro n
  induction n with
  | zero => intro y _ h; omega
  | succ n ih =>
    intro k hk hm
    have hl := cn_le (tb T) k
    refine br_c (fun e => ?_) (fun e => ?_)
    · rw [z_45, zI_le (by omega) (by omega)] at e
      have : k = 45 := by omega
      subst this; exact hp
    · rw [z_45, zI_le (by omega) (by omega)] at e
      refine nm_r (e' := zI (cn (tb T) (k + 1) : Nat)) ?_ (nm_r (e' := zI ((k + 1 : Nat) : Int)) (by rw [z_1, zI_add]; rfl) (ih (k + 1) (by omega) (by omega)))
      rw [tb_val T (by omega), zB_N, zI_add]; rfl
theorem xw_distances {c : Cf} (h : OK c) (post : Int32 → SX → Prop) (kn : Int32) (T : Int64) (lo hi : Int32) (M : Nat → Int32) (hk : KG c kn T)
    (hp : ∀ kn' T', TG c T' → post (zI (cn (tb T') 45 : Nat)) (XS c kn' T' lo hi M)) : wpX_distances post (XS c kn T lo hi M) := by
  unfold wpX_distances
  refine xw_learn h _ kn T lo hi M hk (fun kn' T' hT => ?_)
  exact ⟨46, xm_d8 post kn' T' lo hi M (hp kn' T' hT) 46 0 (by omega) (by decide)⟩
def XD (c : Cf) (x y : Int) : Prop := (0 ≤ x ∧ x ≤ 4) ∧ (-4 ≤ y ∧ y ≤ 4) ∧ TD c x y
theorem xw_distance {c : Cf} (h : OK c) {x y : Int} (hx : -2147483648 ≤ x ∧ x ≤ 2147483647) (hy : -2147483648 ≤ y ∧ y ≤ 2147483647) (post : Int32 → SX → Prop) (kn : Int32) (T : Int64) (lo hi : Int32) (M : Nat → Int32) (hk : KG c kn T)
    (hp : ∀ kn' T', KG c kn' T' → post (zB (XD c x y)) (XS c kn' T' lo hi M)) : wpX_distance post (XS c kn T lo hi M) (zI x) (zI y) := by
  have h0 : ¬ ((0 ≤ x ∧ x ≤ 4) ∧ (-4 ≤ y ∧ y ≤ 4)) → post (zI 0) (XS c kn T lo hi M) := fun g => by
    have := hp kn T hk
    rw [zB_f (fun g' => g ⟨g'.1, g'.2.1⟩)] at this; exact this
  simp (disch := omega) only [wpX_distance, XS, zI_add, zI_sub, zI_mul, zI_neg, zI_div, zT_m, zT_dn, zT_mn, zI_le, zI_lt, zI_eq, zI_cl, z_0, z_1, z_2, z_3, z_4, z_5, z_6, z_8, z_9, z_31, z_32, z_40, z_45, forall_eq]
  refine ⟨fun e => h0 (by omega), fun e1 => ⟨fun e => h0 (by omega), fun e2 => ⟨fun e => h0 (by omega), fun e3 => ⟨fun e4 => ?_, fun e => h0 (by omega)⟩⟩⟩⟩
  refine xw_learn h _ kn T lo hi M hk (fun kn' T' hT => ?_)
  have hTx := hT x y (by omega) (by omega) (by omega) (by omega)
  refine xw_has (by omega) (by omega) _ kn' T' lo hi M ?_
  rw [zB_c (show tb T' (9 * x + y + 4).toNat ↔ XD c x y from ⟨fun g => ⟨by omega, by omega, hTx.1 g⟩, fun g => hTx.2 g.2.2⟩)]
  exact ⟨zB_n _, hp kn' T' (Or.inr hT)⟩
def xA (c : Cf) (s : Prop) (x y : Int) : Prop := TD c x y ∧ ((kP c * x + kQ c * y = 0) ↔ s)
def ad1 (c : Cf) (s : Prop) (x y : Int) : Prop := ∃ y', y ≤ y' ∧ y' ≤ 4 ∧ xA c s x y'
def ad2 (c : Cf) (s : Prop) (x : Int) : Prop := ∃ x' y', x ≤ x' ∧ x' ≤ 4 ∧ -4 ≤ y' ∧ y' ≤ 4 ∧ xA c s x' y'
theorem ad1_s {c : Cf} {s : Prop} {x y : Int} (h : y ≤ 4) : ad1 c s x y ↔ (xA c s x y ∨ ad1 c s x (y + 1)) := by
  constructor
  · rintro ⟨y', a, b, g⟩
    rcases Int.lt_or_eq_of_le a with e | e
    · exact Or.inr ⟨y', by omega, b, g⟩
    · subst e; exact Or.inl g
  · rintro (g | ⟨y', a, b, g⟩)
    · exact ⟨y, Int.le_refl _, h, g⟩
    · exact ⟨y', by omega, b, g⟩
theorem ad2_s {c : Cf} {s : Prop} {x : Int} (h : x ≤ 4) : ad2 c s x ↔ (ad1 c s x (-4) ∨ ad2 c s (x + 1)) := by
  constructor
  · rintro ⟨x', y', a, b, d, e, g⟩
    rcases Int.lt_or_eq_of_le a with q | q
    · exact Or.inr ⟨x', y', by omega, b, d, e, g⟩
    · subst q; exact Or.inl ⟨y', d, e, g⟩
  · rintro (⟨y', d, e, g⟩ | ⟨x', y', a, b, d, e, g⟩)
    · exact ⟨x, y', Int.le_refl _, h, d, e, g⟩
    · exact ⟨x', y', by omega, b, d, e, g⟩
theorem xm_a14 {c : Cf} (h : OK c) (s : Prop) {x : Int} (hx : 0 ≤ x ∧ x ≤ 4) (post : Int32 → SX → Prop) (J6 : Int32 → Prop) (kn : Int32) (T : Int64) (hT : TG c T) (lo hi : Int32) (M : Nat → Int32) :
    ∀ (n : Nat) (y : Int), -4 ≤ y ∧ y ≤ 5 → (5 - y).toNat < n → (ad1 c s x y → post (zI 1) (XS c kn T lo hi M)) → (¬ ad1 c s x y → J6 (zI (x + 1))) →
    wX_anyDistance_14 post J6 (zB s) (zI x) (zI (kN c)) (zI (km c)) (zI (kP c)) (zI (kQ c)) (zI (kR c)) (zI (kS c)) kn T lo hi M (jA c) (jB c) (jC c) (jO c) (jD c) (jL c) (jG c) n (zI y) := by
  intro n
  induction n with
  | zero => intro y _ h; omega
  | succ n ih =>
    intro y hy hm hb hg
    have hbd := kt_b h (x := x) (y := y) (by omega) (by omega)
    have hJ : y ≤ 4 → ¬ xA c s x y → wX_anyDistance_14 post J6 (zB s) (zI x) (zI (kN c)) (zI (km c)) (zI (kP c)) (zI (kQ c)) (zI (kR c)) (zI (kS c)) kn T lo hi M (jA c) (jB c) (jC c) (jO c) (jD c) (jL c) (jG c) n (zI (y + 1)) := fun q r =>
      ih (y + 1) (by omega) (by omega) (fun g => hb ((ad1_s q).2 (Or.inr g))) (fun g => hg (fun g' => by
        rcases (ad1_s q).1 g' with g' | g'
        · exact r g'
        · exact g g'))
    have hB : y ≤ 4 → xA c s x y → post (zI 1) (XS c kn T lo hi M) := fun q r => hb ((ad1_s q).2 (Or.inl r))
    have hE : 5 ≤ y → J6 (zI (x + 1)) := fun q => hg (by
      rintro ⟨y', a, b, _⟩
      omega)
    clear hb hg
    have hz1 : zI 1 = zB s ↔ s := by rw [eq_comm]; exact zB_1
    have hz0 : zI 0 = zB s ↔ ¬ s := by
      rcases Classical.em s with q | q
      · rw [zB_t q]; exact ⟨fun e => absurd e.symm z_10, fun e => absurd q e⟩
      · rw [zB_f q]; exact ⟨fun _ => q, fun _ => rfl⟩
    simp (disch := omega) only [wX_anyDistance_14, wX_anyDistance_49, zI_add, zI_sub, zI_mul, zI_neg, zI_div, zT_m, zT_dn, zT_mn, zI_le, zI_lt, zI_eq, zI_cl, z_0, z_1, z_2, z_3, z_4, z_5, z_6, z_8, z_9, z_31, z_32, z_40, z_45, forall_eq, hz1, hz0]
    refine ⟨hE, fun q => ?_⟩
    have q' : y ≤ 4 := by omega
    refine xw_has hx (by omega) _ kn T lo hi M ?_
    have hTx := hT x y hx.1 hx.2 (by omega) q'
    refine zB_br (fun r => hJ q' (fun g => r (hTx.2 g.1))) (fun r => ⟨fun e => ⟨fun e1 => ?_, fun e1 => ?_⟩, fun e => ⟨fun e1 => ?_, fun e1 => ?_⟩⟩)
    · exact hB q' ⟨hTx.1 r, ⟨fun _ => e1, fun _ => e⟩⟩
    · exact hJ q' (fun g => e1 (g.2.1 e))
    · exact hB q' ⟨hTx.1 r, ⟨fun z => absurd z e, fun z => absurd z e1⟩⟩
    · exact hJ q' (fun g => e1 (fun z => e (g.2.2 z)))
theorem xm_a6 {c : Cf} (h : OK c) (s : Prop) (post : Int32 → SX → Prop) (kn : Int32) (T : Int64) (hT : TG c T) (lo hi : Int32) (M : Nat → Int32) :
    ∀ (n : Nat) (x : Int), 0 ≤ x ∧ x ≤ 5 → (5 - x).toNat < n → post (zB (ad2 c s x)) (XS c kn T lo hi M) →
    wX_anyDistance_6 post (zB s) (zI (kN c)) (zI (km c)) (zI (kP c)) (zI (kQ c)) (zI (kR c)) (zI (kS c)) kn T lo hi M (jA c) (jB c) (jC c) (jO c) (jD c) (jL c) (jG c) n (zI x) := by
  intro n
  induction n with
  | zero => intro y _ h; omega
  | succ n ih =>
    intro x hx hm hp
    simp (disch := omega) only [wX_anyDistance_6, zI_add, zI_sub, zI_mul, zI_neg, zI_div, zT_m, zT_dn, zT_mn, zI_le, zI_lt, zI_eq, zI_cl, z_0, z_1, z_2, z_3, z_4, z_5, z_6, z_8, z_9, z_31, z_32, z_40, z_45, forall_eq]
    refine ⟨fun q => ?_, fun q => ⟨10, ?_⟩⟩
    · rw [zB_f (p := ad2 c s x) (by rintro ⟨x', y', a, b, _⟩; omega)] at hp; exact hp
    · have q' : x ≤ 4 := by omega
      refine xm_a14 h s (by omega) post _ kn T hT lo hi M 10 (-4) (by omega) (by decide) (fun g => ?_) (fun g => ?_)
      · rw [zB_t ((ad2_s q').2 (Or.inl g))] at hp; exact hp
      · refine ih (x + 1) (by omega) (by omega) ?_
        rw [zB_c (show ad2 c s (x + 1) ↔ ad2 c s x from ⟨fun g' => (ad2_s q').2 (Or.inr g'), fun g' => ((ad2_s q').1 g').resolve_left g⟩)]
        exact hp
theorem xw_any {c : Cf} (h : OK c) (s : Prop) {p0 : Int32} (e0 : p0 = zB s) (post : Int32 → SX → Prop) (kn : Int32) (T : Int64) (lo hi : Int32) (M : Nat → Int32) (hk : KG c kn T)
    (hp : ∀ kn' T', TG c T' → post (zB (ad2 c s 0)) (XS c kn' T' lo hi M)) : wpX_anyDistance post (XS c kn T lo hi M) p0 := by
  subst e0
  unfold wpX_anyDistance
  refine xw_learn h _ kn T lo hi M hk (fun kn' T' hT => ?_)
  exact ⟨6, xm_a6 h s post kn' T' hT lo hi M 6 0 (by omega) (by decide) (hp kn' T' hT)⟩
theorem xw_inner {c : Cf} (h : OK c) (post : Int32 → SX → Prop) (kn : Int32) (T : Int64) (lo hi : Int32) (M : Nat → Int32) (hk : KG c kn T)
    (hp : ∀ kn' T', TG c T' → post (zB (¬ ad2 c True 0)) (XS c kn' T' lo hi M)) : wpX_innerFree post (XS c kn T lo hi M) := by
  unfold wpX_innerFree
  refine xw_any h True (by rw [zB_t True.intro]; exact z_1) _ kn T lo hi M hk (fun kn' T' hT => ?_)
  refine zB_br (fun g => ?_) (fun g => ?_)
  · have := hp kn' T' hT
    rw [zB_t g] at this; exact this
  · have := hp kn' T' hT
    rw [zB_f (fun q => q g)] at this; exact this
theorem xw_outer {c : Cf} (h : OK c) (post : Int32 → SX → Prop) (kn : Int32) (T : Int64) (lo hi : Int32) (M : Nat → Int32) (hk : KG c kn T)
    (hp : ∀ kn' T', TG c T' → post (zB (¬ ad2 c False 0)) (XS c kn' T' lo hi M)) : wpX_outerFree post (XS c kn T lo hi M) := by
  unfold wpX_outerFree
  refine xw_any h False (by rw [zB_f (fun q => q)]; exact z_0) _ kn T lo hi M hk (fun kn' T' hT => ?_)
  refine zB_br (fun g => ?_) (fun g => ?_)
  · have := hp kn' T' hT
    rw [zB_t g] at this; exact this
  · have := hp kn' T' hT
    rw [zB_f (fun q => q g)] at this; exact this
end
section
/-! X: floor, narrow, bounds -/
theorem xw_floor {a b : Int} (ha : -1000 ≤ a ∧ a ≤ 1000) (hb : b = 1 ∨ b = 2 ∨ b = 3) (post : Int32 → Prop)
    (hp : ∀ q : Int, (-1002 ≤ q ∧ q ≤ 1002) → b * q ≤ a → a < b * (q + 1) → post (zI q)) : wpX_floor post (zI a) (zI b) := by
  have h1 := Int.mul_tdiv_add_tmod a b
  have h2 : (a.tmod b).natAbs < b.natAbs := by rw [Int.natAbs_tmod]; exact Nat.mod_lt _ (by omega)
  have h3 := z_tdb a b
  have h3' : -1000 ≤ a.tdiv b ∧ a.tdiv b ≤ 1000 := by omega
  have h4 := z_mb (a := a.tdiv b) (b := b) 1000 3 h3' ⟨by omega, by omega⟩
  have e5 : a.tdiv b * b = b * a.tdiv b := Int.mul_comm _ _
  have e6 : b * (a.tdiv b + 1) = b * a.tdiv b + b := by rw [Int.mul_add, Int.mul_one]
  have e7 : b * (a.tdiv b - 1) = b * a.tdiv b - b := by rw [Int.mul_sub, Int.mul_one]
  have e8 : b * (a.tdiv b - 1 + 1) = b * a.tdiv b := by rw [Int.sub_add_cancel]
  clear h3
  simp (disch := omega) only [wpX_floor, wX_floor_11, zI_sub, zI_mul, zI_div, zI_le, zI_eq, z_0, z_1]
  refine ⟨fun e => by omega, fun e => ⟨by omega, fun e1 => ?_, fun e1 => ?_⟩⟩
  · exact hp _ (by omega) (by omega) (by omega)
  · exact hp _ (by omega) (by omega) (by omega)
theorem xw_n73 {c : Cf} {sz fr to l hh : Int} (hs : sz = 1 ∨ sz = 2 ∨ sz = 3) (hfr : -400 ≤ fr ∧ fr ≤ 400) (hto : -400 ≤ to ∧ to ≤ 400) (B : Int) (hB : 410 ≤ B ∧ B ≤ 1000) (hl : -B ≤ l ∧ l ≤ B) (hh1 : -B ≤ hh ∧ hh ≤ B)
    (post : SX → Prop) (kn : Int32) (T : Int64) (M : Nat → Int32)
    (hp : ∀ l' h' : Int, (-(B + 1) ≤ l' ∧ l' ≤ B + 1) → (-(B + 1) ≤ h' ∧ h' ≤ B + 1) → (∀ v : Int, (l' ≤ v ∧ v ≤ h') ↔ (l ≤ v ∧ v ≤ hh ∧ fr ≤ sz * v ∧ sz * v ≤ to)) → post (XS c kn T (zI l') (zI h') M)) :
    wX_narrow_73 post (zI sz) (zI fr) (zI to) (zI (kN c)) (zI (km c)) (zI (kP c)) (zI (kQ c)) (zI (kR c)) (zI (kS c)) kn T (zI l) (zI hh) M (jA c) (jB c) (jC c) (jO c) (jD c) (jL c) (jG c) := by
  have key : ∀ q1 q2 : Int, (sz * q1 ≤ -fr) → (-fr < sz * (q1 + 1)) → (sz * q2 ≤ to) → (to < sz * (q2 + 1)) → (-401 ≤ q1 ∧ q1 ≤ 401) ∧ (-401 ≤ q2 ∧ q2 ≤ 401) ∧ ∀ v : Int, (fr ≤ sz * v ∧ sz * v ≤ to) ↔ (-q1 ≤ v ∧ v ≤ q2) := by
    intro q1 q2
    rcases hs with rfl | rfl | rfl
    · intro a b d e; exact ⟨by omega, by omega, fun v => by omega⟩
    · intro a b d e; exact ⟨by omega, by omega, fun v => by omega⟩
    · intro a b d e; exact ⟨by omega, by omega, fun v => by omega⟩
  simp (disch := omega) only [wX_narrow_73, wX_narrow_112, zI_neg]
  refine xw_floor (by omega) hs _ (fun q1 b1 g1 g2 => ?_)
  simp (disch := omega) only [zI_neg, forall_eq]
  refine xw_floor (by omega) hs _ (fun q2 b2 g3 g4 => ?_)
  obtain ⟨k1, k2, k3⟩ := key q1 q2 g1 g2 g3 g4
  simp (disch := omega) only [zI_le]
  refine ⟨fun e1 => ⟨fun e2 => ?_, fun e2 => ?_⟩, fun e1 => ⟨fun e2 => ?_, fun e2 => ?_⟩⟩
  · exact hp l hh (by omega) (by omega) (fun v => by rw [k3 v]; omega)
  · exact hp l q2 (by omega) (by omega) (fun v => by rw [k3 v]; omega)
  · exact hp (-q1) hh (by omega) (by omega) (fun v => by rw [k3 v]; omega)
  · exact hp (-q1) q2 (by omega) (by omega) (fun v => by rw [k3 v]; omega)
theorem xw_narrow {c : Cf} (h : OK c) {k g l hh : Int} (hk : -150 ≤ k ∧ k ≤ 150) (hg : -3 ≤ g ∧ g ≤ 3) (B : Int) (hB : 410 ≤ B ∧ B ≤ 1000) (hl : -B ≤ l ∧ l ≤ B) (hh1 : -B ≤ hh ∧ hh ≤ B)
    (post : SX → Prop) (kn : Int32) (T : Int64) (M : Nat → Int32)
    (hp : ∀ l' h' : Int, (-(B + 1) ≤ l' ∧ l' ≤ B + 1) → (-(B + 1) ≤ h' ∧ h' ≤ B + 1) → (∀ v : Int, (l' ≤ v ∧ v ≤ h') ↔ (l ≤ v ∧ v ≤ hh ∧ 0 ≤ k + g * v ∧ k + g * v < kN c)) → post (XS c kn T (zI l') (zI h') M)) :
    wpX_narrow post (XS c kn T (zI l) (zI hh) M) (zI k) (zI g) := by
  have hn := OK_n h
  simp (disch := omega) only [wpX_narrow, XS, wX_narrow_37, wX_narrow_55, zI_add, zI_sub, zI_mul, zI_neg, zI_div, zT_m, zT_dn, zT_mn, zI_le, zI_lt, zI_eq, zI_cl, z_0, z_1, z_2, z_3, z_4, z_5, z_6, z_8, z_9, z_31, z_32, z_40, z_45, forall_eq]
  refine ⟨fun e0 => ?_, fun e0 => ⟨fun e1 => ?_, fun e1 => ?_⟩⟩
  · subst e0
    refine ⟨fun e1 => ?_, fun e1 => ⟨fun e2 => ?_, fun e2 => ?_⟩⟩
    · exact hp l (l - 1) (by omega) (by omega) (fun v => by rw [Int.zero_mul]; omega)
    · exact hp l hh (by omega) (by omega) (fun v => by rw [Int.zero_mul]; omega)
    · exact hp l (l - 1) (by omega) (by omega) (fun v => by rw [Int.zero_mul]; omega)
  · refine ⟨fun _ => ⟨fun _ => ?_, fun e => absurd e1 e⟩, fun e => absurd e1 e⟩
    refine xw_n73 (by omega) (by omega) (by omega) B hB hl hh1 post kn T M (fun l' h' a b q => hp l' h' a b (fun v => ?_))
    rw [q v]; omega
  · refine ⟨fun e => absurd e e1, fun _ => ⟨fun e => absurd e e1, fun _ => ?_⟩⟩
    refine xw_n73 (by omega) (by omega) (by omega) B hB hl hh1 post kn T M (fun l' h' a b q => hp l' h' a b (fun v => ?_))
    rw [q v, Int.neg_mul]; omega
def oI (c : Cf) (u v : Int) : Int := (kP c * kS c - kQ c * kR c) * (kS c * u - kQ c * v)
def oJ (c : Cf) (u v : Int) : Int := (kP c * kS c - kQ c * kR c) * (kP c * v - kR c * u)
/-- (u, v) is an iteration's -/
def inB (c : Cf) (u v : Int) : Prop := (0 ≤ oI c u v ∧ oI c u v < kN c) ∧ (0 ≤ oJ c u v ∧ oJ c u v < kN c)
theorem kt_u {c : Cf} (h : OK c) (u v : Int) : kP c * oI c u v + kQ c * oJ c u v = u := by
  have t := (OK_t h).2.2.2.2
  unfold oI oJ
  generalize kP c = P at *
  generalize kQ c = Q at *
  generalize kR c = R at *
  generalize kS c = S at *
  have e : (P * S - Q * R) * (P * S - Q * R) = 1 := by rcases t with t | t <;> rw [t] <;> rfl
  have e2 : P * ((P * S - Q * R) * (S * u - Q * v)) + Q * ((P * S - Q * R) * (P * v - R * u)) = ((P * S - Q * R) * (P * S - Q * R)) * u := by grind
  rw [e2, e, Int.one_mul]
theorem kt_v {c : Cf} (h : OK c) (u v : Int) : kR c * oI c u v + kS c * oJ c u v = v := by
  have t := (OK_t h).2.2.2.2
  unfold oI oJ
  generalize kP c = P at *
  generalize kQ c = Q at *
  generalize kR c = R at *
  generalize kS c = S at *
  have e : (P * S - Q * R) * (P * S - Q * R) = 1 := by rcases t with t | t <;> rw [t] <;> rfl
  have e2 : R * ((P * S - Q * R) * (S * u - Q * v)) + S * ((P * S - Q * R) * (P * v - R * u)) = ((P * S - Q * R) * (P * S - Q * R)) * v := by grind
  rw [e2, e, Int.one_mul]
theorem kt_i {c : Cf} (h : OK c) (i j : Int) : oI c (kP c * i + kQ c * j) (kR c * i + kS c * j) = i := by
  have t := (OK_t h).2.2.2.2
  unfold oI
  generalize kP c = P at *
  generalize kQ c = Q at *
  generalize kR c = R at *
  generalize kS c = S at *
  have e : (P * S - Q * R) * (P * S - Q * R) = 1 := by rcases t with t | t <;> rw [t] <;> rfl
  have e2 : (P * S - Q * R) * (S * (P * i + Q * j) - Q * (R * i + S * j)) = ((P * S - Q * R) * (P * S - Q * R)) * i := by grind
  rw [e2, e, Int.one_mul]
theorem kt_j {c : Cf} (h : OK c) (i j : Int) : oJ c (kP c * i + kQ c * j) (kR c * i + kS c * j) = j := by
  have t := (OK_t h).2.2.2.2
  unfold oJ
  generalize kP c = P at *
  generalize kQ c = Q at *
  generalize kR c = R at *
  generalize kS c = S at *
  have e : (P * S - Q * R) * (P * S - Q * R) = 1 := by rcases t with t | t <;> rw [t] <;> rfl
  have e2 : (P * S - Q * R) * (P * (R * i + S * j) - R * (P * i + Q * j)) = ((P * S - Q * R) * (P * S - Q * R)) * j := by grind
  rw [e2, e, Int.one_mul]
theorem kt_24 {c : Cf} (h : OK c) {u v : Int} (hb : inB c u v) : (-24 ≤ u ∧ u ≤ 24) ∧ (-24 ≤ v ∧ v ≤ 24) := by
  have hn := OK_n h
  have t := OK_t h
  have hi : -(4 : Int) ≤ oI c u v ∧ oI c u v ≤ 4 := by have := hb.1; omega
  have hj : -(4 : Int) ≤ oJ c u v ∧ oJ c u v ≤ 4 := by have := hb.2; omega
  have e1 := kt_u h u v
  have e2 := kt_v h u v
  have b1 := z_mb 3 4 t.1 hi
  have b2 := z_mb 3 4 t.2.1 hj
  have b3 := z_mb 3 4 t.2.2.1 hi
  have b4 := z_mb 3 4 t.2.2.2.1 hj
  omega
def BB (c : Cf) (u l hh : Int) : Prop := (-600 ≤ l ∧ l ≤ 600) ∧ (-600 ≤ hh ∧ hh ≤ 600) ∧ ∀ v : Int, (l ≤ v ∧ v ≤ hh) ↔ inB c u v
theorem xw_bounds {c : Cf} (h : OK c) {u : Int} (hu : -40 ≤ u ∧ u ≤ 40) (post : SX → Prop) (kn : Int32) (T : Int64) (lo hi : Int32) (M : Nat → Int32)
    (hp : ∀ l hh : Int, BB c u l hh → post (XS c kn T (zI l) (zI hh) M)) : wpX_bounds post (XS c kn T lo hi M) (zI u) := by
  have hn := OK_n h
  have t := OK_t h
  have b1 := z_mb (a := kS c) (b := u) 3 40 t.2.2.2.1 hu
  have b2 := z_mb (a := kR c) (b := u) 3 40 t.2.2.1 hu
  have hd := t.2.2.2.2
  have t1 := t.1
  have t2 := t.2.1
  have f1 : ∀ v, (kP c * kS c - kQ c * kR c) * kS c * u + -(kP c * kS c - kQ c * kR c) * kQ c * v = oI c u v := by
    intro v; unfold oI; grind
  have f2 : ∀ v, -(kP c * kS c - kQ c * kR c) * kR c * u + (kP c * kS c - kQ c * kR c) * kP c * v = oJ c u v := by
    intro v; unfold oJ; grind
  have g1 : -150 ≤ (kP c * kS c - kQ c * kR c) * kS c * u ∧ (kP c * kS c - kQ c * kR c) * kS c * u ≤ 150 := by
    rcases hd with hd | hd <;> rw [hd, Int.mul_assoc]
    · rw [Int.one_mul]; omega
    · rw [Int.neg_mul, Int.one_mul]; omega
  have g2 : -3 ≤ -(kP c * kS c - kQ c * kR c) * kQ c ∧ -(kP c * kS c - kQ c * kR c) * kQ c ≤ 3 := by
    rcases hd with hd | hd <;> rw [hd]
    · rw [Int.neg_mul, Int.one_mul]; omega
    · rw [Int.neg_neg, Int.one_mul]; omega
  have g3 : -150 ≤ -(kP c * kS c - kQ c * kR c) * kR c * u ∧ -(kP c * kS c - kQ c * kR c) * kR c * u ≤ 150 := by
    rcases hd with hd | hd <;> rw [hd, Int.mul_assoc]
    · rw [Int.neg_mul, Int.one_mul]; omega
    · rw [Int.neg_neg, Int.one_mul]; omega
  have g4 : -3 ≤ (kP c * kS c - kQ c * kR c) * kP c ∧ (kP c * kS c - kQ c * kR c) * kP c ≤ 3 := by
    rcases hd with hd | hd <;> rw [hd]
    · rw [Int.one_mul]; omega
    · rw [Int.neg_mul, Int.one_mul]; omega
  simp only [wpX_bounds, XS, zI_mul, zI_sub, zI_neg, z_40, forall_eq]
  refine xw_narrow (l := -40) (hh := 40) h g1 g2 500 (by omega) (by omega) (by omega) _ kn T M (fun l1 h1 a1 a2 q1 => ?_)
  simp only [XS, zI_mul]
  refine xw_narrow (l := l1) (hh := h1) h g3 g4 501 (by omega) (by omega) (by omega) _ kn T M (fun l2 h2 a3 a4 q2 => ?_)
  refine hp l2 h2 ⟨by omega, by omega, fun v => ?_⟩
  have q1v := q1 v
  have q2v := q2 v
  rw [f1 v] at q1v
  rw [f2 v] at q2v
  constructor
  · intro z
    have z2 := q2v.1 z
    have z1 := q1v.1 ⟨z2.1, z2.2.1⟩
    exact ⟨z1.2.2, z2.2.2⟩
  · intro z
    have z3 := (kt_24 h z).2
    have z1 := q1v.2 ⟨by omega, by omega, z.1.1, z.1.2⟩
    exact q2v.2 ⟨z1.1, z1.2, z.2.1, z.2.2⟩
end
section
/-! one iteration's statements, on both sides -/
noncomputable def sv (c : Cf) (t : Nat) (x y : Int32) : Int32 := if kO c t = 0 then x + y else if kO c t = 1 then x * y else x + zI 1
/-- statement t in iteration (i, j) -/
noncomputable def st1 (c : Cf) (t : Nat) (i j : Int) (M : Nat → Int32) : Nat → Int32 :=
  upd M (kl c (kD c t) i j).toNat (sv c t (M (kl c (kL c t) i j).toNat) (M (kl c (kG c t) i j).toNat))
/-- r statements from t on -/
noncomputable def stR (c : Cf) (i j : Int) : Nat → Nat → (Nat → Int32) → Nat → Int32
  | 0, _, M => M
  | r + 1, t, M => stR c i j r (t + 1) (st1 c t i j M)
theorem stR_s {c : Cf} {i j : Int} {t : Nat} {M : Nat → Int32} (h : t < km c) : stR c i j (km c - t) t M = stR c i j (km c - (t + 1)) (t + 1) (st1 c t i j M) := by
  have e : km c - t = (km c - (t + 1)) + 1 := by omega
  rw [e, stR]
theorem stR_x {c : Cf} {i j : Int} {t : Nat} {M : Nat → Int32} (h : km c ≤ t) : stR c i j (km c - t) t M = M := by
  have e : km c - t = 0 := by omega
  rw [e, stR]
theorem xw_cell {c : Cf} (h : OK c) {k : Nat} (hk : k < 6) {i j : Int} (hi : 0 ≤ i ∧ i < kN c) (hj : 0 ≤ j ∧ j < kN c) (post : Int32 → Prop) (kn : Int32) (T : Int64) (lo hi' : Int32) (M : Nat → Int32)
    (hp : post (zI (kl c k i j))) : wpX_cellOf post (XS c kn T lo hi' M) (zI k) (zI i) (zI j) := by
  have a := (OK_a h k).2.2.2 i j hi.1 hi.2 hj.1 hj.2
  have ik : vp_in (zI (k : Int)) 6 := zI_in hk (by omega)
  refine ⟨ik, ik, ik, ?_⟩
  rw [zI_cl (by omega), jA_e, jB_e, jC_e, zI_mul, zI_mul, zI_add, zI_add, z_a31 (a := kA c k * i + kB c k * j + kC c k) a]
  exact hp
theorem xm_b2 {c : Cf} (h : OK c) {i j : Int} (hi : 0 ≤ i ∧ i < kN c) (hj : 0 ≤ j ∧ j < kN c) (post : SX → Prop) (kn : Int32) (T : Int64) (lo hi' : Int32) :
    ∀ (n t : Nat) (M : Nat → Int32), t ≤ km c → km c - t < n → post (XS c kn T lo hi' (stR c i j (km c - t) t M)) →
    wX_body_2 post (zI i) (zI j) (zI (kN c)) (zI (km c)) (zI (kP c)) (zI (kQ c)) (zI (kR c)) (zI (kS c)) kn T lo hi' n (zI t) M (jA c) (jB c) (jC c) (jO c) (jD c) (jL c) (jG c) := by
  have hn := OK_n h
  intro n
  induction n with
  | zero => intro t M _ h; omega
  | succ n ih =>
    intro t M ht hm hp
    have et : (zI (t : Int)).toNatClampNeg = t := zI_cl (by omega)
    have s := OK_s h t
    have aL := (OK_a h (kL c t)).2.2.2 i j hi.1 hi.2 hj.1 hj.2
    have aG := (OK_a h (kG c t)).2.2.2 i j hi.1 hi.2 hj.1 hj.2
    have aD := (OK_a h (kD c t)).2.2.2 i j hi.1 hi.2 hj.1 hj.2
    refine br_c (fun e => ?_) (fun e => ?_)
    · rw [zI_le (by omega) (by omega)] at e
      rw [stR_x (by omega)] at hp; exact hp
    · rw [zI_le (by omega) (by omega)] at e
      have it : vp_in (zI (t : Int)) 3 := zI_in (by omega) (by omega)
      rw [stR_s (by omega)] at hp
      have en : zI (t : Int) + 1 = zI ((t + 1 : Nat) : Int) := by rw [z_1, zI_add]; rfl
      have hJ := fun M' => ih (t + 1) M' (by omega) (by omega)
      refine ⟨it, ?_⟩
      rw [et, jL_e, jG_e, jD_e, jO_e]
      refine xw_cell h s.2.2.1 hi hj _ kn T lo hi' M ⟨it, ?_⟩
      refine xw_cell h s.2.2.2.1 hi hj _ kn T lo hi' M ⟨it, ?_⟩
      refine xw_cell h s.2.1 hi hj _ kn T lo hi' M ?_
      refine ⟨zI_inI (by omega) (by omega), nm_e ⟨zI_inI (by omega) (by omega), nm_e ⟨it, ?_⟩⟩⟩
      rw [zI_clI (by omega), zI_clI (by omega), zI_clI (by omega), z_0, z_1]
      rw [z_1] at en
      refine br_c (fun e0 => ?_) (fun e0 => ⟨it, br_c (fun e1 => ?_) (fun e1 => ?_)⟩)
      · rw [zI_eq (by omega) (by omega)] at e0
        refine ⟨zI_inI (by omega) (by omega), nm_e (nm_r en (hJ _ ?_))⟩
        have : st1 c t i j M = upd M (kl c (kD c t) i j).toNat (M (kl c (kL c t) i j).toNat + M (kl c (kG c t) i j).toNat) := by
          unfold st1 sv; rw [if_pos (by omega)]
        rw [← this]; exact hp
      · rw [zI_eq (by omega) (by omega)] at e0 e1
        refine ⟨zI_inI (by omega) (by omega), nm_e (nm_r en (hJ _ ?_))⟩
        have : st1 c t i j M = upd M (kl c (kD c t) i j).toNat (M (kl c (kL c t) i j).toNat * M (kl c (kG c t) i j).toNat) := by
          unfold st1 sv; rw [if_neg (by omega), if_pos (by omega)]
        rw [← this]; exact hp
      · rw [zI_eq (by omega) (by omega)] at e0 e1
        refine ⟨zI_inI (by omega) (by omega), nm_e (nm_r en (hJ _ ?_))⟩
        have : st1 c t i j M = upd M (kl c (kD c t) i j).toNat (M (kl c (kL c t) i j).toNat + zI 1) := by
          unfold st1 sv; rw [if_neg (by omega), if_neg (by omega)]
        rw [← this]; exact hp
theorem xw_body {c : Cf} (h : OK c) {i j : Int} (hi : 0 ≤ i ∧ i < kN c) (hj : 0 ≤ j ∧ j < kN c) (post : SX → Prop) (kn : Int32) (T : Int64) (lo hi' : Int32) (M : Nat → Int32)
    (hp : post (XS c kn T lo hi' (stR c i j (km c) 0 M))) : wpX_body post (XS c kn T lo hi' M) (zI i) (zI j) := by
  have hn := OK_n h
  exact ⟨4, xm_b2 h hi hj post kn T lo hi' 4 0 M (by omega) (by omega) hp⟩
end
section
/-! plain laws: iterations by number, distances, legality -/
theorem eo_c {N : Nat} (hN : 1 ≤ N ∧ N ≤ 5) : N = 1 ∨ N = 2 ∨ N = 3 ∨ N = 4 ∨ N = 5 := by omega
theorem eo_r {N e : Nat} (hN : 1 ≤ N ∧ N ≤ 5) (he : e < N * N) : e / N < N ∧ e % N < N ∧ (0 : Int) ≤ ((e / N : Nat) : Int) ∧ (0 : Int) ≤ ((e % N : Nat) : Int) := by
  rcases eo_c hN with rfl | rfl | rfl | rfl | rfl <;> omega
theorem eo_mk {N : Nat} (hN : 1 ≤ N ∧ N ≤ 5) {i j : Int} (hi : 0 ≤ i ∧ i < N) (hj : 0 ≤ j ∧ j < N) : ∃ e : Nat, e < N * N ∧ ((e / N : Nat) : Int) = i ∧ ((e % N : Nat) : Int) = j := by
  refine ⟨(i * N + j).toNat, ?_⟩
  rcases eo_c hN with rfl | rfl | rfl | rfl | rfl <;> omega
theorem eo_lt {N e f : Nat} (hN : 1 ≤ N ∧ N ≤ 5) : e < f ↔ (e / N < f / N ∨ e / N = f / N ∧ e % N < f % N) := by
  rcases eo_c hN with rfl | rfl | rfl | rfl | rfl <;> omega
theorem eo_eq {N e f : Nat} (h1 : e / N = f / N) (h2 : e % N = f % N) : e = f := by
  have a := Nat.div_add_mod e N
  have b := Nat.div_add_mod f N
  rw [h1, h2] at a
  omega
theorem eo_K {N : Nat} (hN : 1 ≤ N ∧ N ≤ 5) : 1 ≤ N * N ∧ N * N ≤ 25 := by
  rcases eo_c hN with rfl | rfl | rfl | rfl | rfl <;> decide
theorem OK_N {c : Cf} (h : OK c) : 1 ≤ kN c ∧ kN c ≤ 5 := ⟨h.1.1, h.1.2.1⟩
/-- iterations e, f, e first, at distance (x, y) -/
def dist (c : Cf) (e f : Nat) (x y : Int) : Prop := ((f / kN c : Nat) : Int) - ((e / kN c : Nat) : Int) = x ∧ ((f % kN c : Nat) : Int) - ((e % kN c : Nat) : Int) = y
def YD (c : Cf) (x y : Int) : Prop := ∃ e f : Nat, e < f ∧ f < kN c * kN c ∧ TC c e f ∧ dist c e f x y
theorem MT_e {c : Cf} (h : OK c) {k l : Nat} {x y : Int} (hx : 0 ≤ x) (hl : 0 < x ∨ 0 < y) (m : MT c k l x y) : ∃ e f : Nat, e < f ∧ f < kN c * kN c ∧ dist c e f x y ∧ ce c k e = ce c l f := by
  have hN := OK_N h
  obtain ⟨i, j, h1, h2, h3, h4, h5, h6, h7, h8, h9⟩ := m
  obtain ⟨e, e1, e2, e3⟩ := eo_mk hN ⟨h1, h2⟩ ⟨h3, h4⟩
  obtain ⟨f, f1, f2, f3⟩ := eo_mk hN ⟨h5, h6⟩ ⟨h7, h8⟩
  refine ⟨e, f, (eo_lt hN).2 (by omega), f1, ⟨by omega, by omega⟩, ?_⟩
  unfold ce
  rw [e2, e3, f2, f3]
  exact h9
theorem MT_i {c : Cf} (h : OK c) {k l e f : Nat} (he : e < kN c * kN c) (hf : f < kN c * kN c) {x y : Int} (d : dist c e f x y) (q : ce c k e = ce c l f) : MT c k l x y := by
  have hN := OK_N h
  have a := eo_r hN he
  have b := eo_r hN hf
  obtain ⟨d1, d2⟩ := d
  refine ⟨(e / kN c : Nat), (e % kN c : Nat), by omega, by omega, by omega, by omega, by omega, by omega, by omega, by omega, ?_⟩
  have z1 : ((e / kN c : Nat) : Int) + x = ((f / kN c : Nat) : Int) := by omega
  have z2 : ((e % kN c : Nat) : Int) + y = ((f % kN c : Nat) : Int) := by omega
  rw [z1, z2]
  exact q
theorem dist_l {c : Cf} (h : OK c) {e f : Nat} {x y : Int} (hl : e < f) (hf : f < kN c * kN c) (d : dist c e f x y) : (0 ≤ x ∧ x ≤ 4) ∧ (-4 ≤ y ∧ y ≤ 4) ∧ (0 < x ∨ 0 < y) := by
  have hN := OK_N h
  have a := eo_r hN (Nat.lt_trans hl hf)
  have b := eo_r hN hf
  have l := (eo_lt hN).1 hl
  obtain ⟨d1, d2⟩ := d
  omega
theorem RL_Y {c : Cf} (h : OK c) {w t a : Nat} {x y : Int} (hx : 0 ≤ x) (hw : w < km c) (ht : t < km c) (ha : a = kD c t ∨ a = kL c t ∨ a = kG c t) (r : RL c (kD c w) a x y) : YD c x y := by
  have mk : ∀ e f : Nat, ce c a f = ce c (kD c w) e → RC c e f := fun e f q => ⟨w, t, hw, ht, by
    rcases ha with rfl | rfl | rfl
    · exact Or.inl q
    · exact Or.inr (Or.inl q)
    · exact Or.inr (Or.inr q)⟩
  rcases r.2 with m | m
  · obtain ⟨e, f, p1, p2, p3, p4⟩ := MT_e h hx r.1 m
    exact ⟨e, f, p1, p2, Or.inl (mk e f p4.symm), p3⟩
  · obtain ⟨e, f, p1, p2, p3, p4⟩ := MT_e h hx r.1 m
    exact ⟨e, f, p1, p2, Or.inr (mk f e p4), p3⟩
theorem RC_a {c : Cf} {e f : Nat} (r : RC c e f) : ∃ w t a : Nat, w < km c ∧ t < km c ∧ (a = kD c t ∨ a = kL c t ∨ a = kG c t) ∧ ce c a f = ce c (kD c w) e := by
  obtain ⟨w, t, hw, ht, q | q | q⟩ := r
  · exact ⟨w, t, _, hw, ht, Or.inl rfl, q⟩
  · exact ⟨w, t, _, hw, ht, Or.inr (Or.inl rfl), q⟩
  · exact ⟨w, t, _, hw, ht, Or.inr (Or.inr rfl), q⟩
theorem TD_mk {c : Cf} {w t a : Nat} {x y : Int} (hw : w < km c) (ht : t < km c) (ha : a = kD c t ∨ a = kL c t ∨ a = kG c t) (r : RL c (kD c w) a x y) : TD c x y := by
  rcases ha with rfl | rfl | rfl
  · exact ⟨w, t, hw, ht, Or.inl r⟩
  · exact ⟨w, t, hw, ht, Or.inr (Or.inl r)⟩
  · exact ⟨w, t, hw, ht, Or.inr (Or.inr r)⟩
theorem TD_e {c : Cf} (h : OK c) {e f : Nat} (hl : e < f) (hf : f < kN c * kN c) {x y : Int} (d : dist c e f x y) (q : TC c e f) : TD c x y := by
  have he := Nat.lt_trans hl hf
  have z := (dist_l h hl hf d).2.2
  rcases q with q | q
  · obtain ⟨w, t, a, hw, ht, ha, q⟩ := RC_a q
    exact TD_mk hw ht ha ⟨z, Or.inl (MT_i h he hf d q.symm)⟩
  · obtain ⟨w, t, a, hw, ht, ha, q⟩ := RC_a q
    exact TD_mk hw ht ha ⟨z, Or.inr (MT_i h he hf d q)⟩
theorem TD_Y {c : Cf} (h : OK c) {x y : Int} (hx : 0 ≤ x) : TD c x y ↔ YD c x y := by
  constructor
  · rintro ⟨w, t, hw, ht, r | r | r⟩
    · exact RL_Y h hx hw ht (Or.inl rfl) r
    · exact RL_Y h hx hw ht (Or.inr (Or.inl rfl)) r
    · exact RL_Y h hx hw ht (Or.inr (Or.inr rfl)) r
  · rintro ⟨e, f, hl, hf, q, d⟩
    exact TD_e h hl hf d q
theorem XD_Y {c : Cf} (h : OK c) {x y : Int} : XD c x y ↔ YD c x y := by
  constructor
  · intro g
    exact (TD_Y h g.1.1).1 g.2.2
  · intro g
    obtain ⟨e, f, hl, hf, q, d⟩ := g
    have z := dist_l h hl hf d
    exact ⟨z.1, z.2.1, TD_e h hl hf d q⟩
theorem kU_d {c : Cf} {e f : Nat} {x y : Int} (d : dist c e f x y) : kU c f - kU c e = kP c * x + kQ c * y := by
  obtain ⟨d1, d2⟩ := d
  unfold kU
  rw [← d1, ← d2, Int.mul_sub, Int.mul_sub]
  omega
theorem kV_d {c : Cf} {e f : Nat} {x y : Int} (d : dist c e f x y) : kV c f - kV c e = kR c * x + kS c * y := by
  obtain ⟨d1, d2⟩ := d
  unfold kV
  rw [← d1, ← d2, Int.mul_sub, Int.mul_sub]
  omega
theorem kt_00 {c : Cf} (h : OK c) {x y : Int} (h1 : kP c * x + kQ c * y = 0) (h2 : kR c * x + kS c * y = 0) : x = 0 ∧ y = 0 := by
  have a := kt_i h x y
  have b := kt_j h x y
  rw [h1, h2] at a b
  unfold oI at a
  unfold oJ at b
  simp only [Int.mul_zero, Int.sub_zero] at a b
  exact ⟨a.symm, b.symm⟩
def YL (c : Cf) : Prop := ∀ e f : Nat, e < f → f < kN c * kN c → TC c e f → BF c e f
theorem dist_of (c : Cf) (e f : Nat) : ∃ x y : Int, dist c e f x y := ⟨_, _, rfl, rfl⟩
theorem lg_Y {c : Cf} (h : OK c) : lg2 c 0 ↔ YL c := by
  constructor
  · intro g e f hl hf q
    obtain ⟨x, y, d⟩ := dist_of c e f
    have z := dist_l h hl hf d
    have g1 := g x y z.1.1 z.1.2 z.2.1.1 z.2.1.2
    have t := TD_e h hl hf d q
    have a := kU_d d
    have b := kV_d d
    have n1 : ¬ (kP c * x + kQ c * y < 0 ∨ kP c * x + kQ c * y = 0 ∧ kR c * x + kS c * y < 0) := fun n => g1 ⟨t, n⟩
    have n2 : ¬ (kP c * x + kQ c * y = 0 ∧ kR c * x + kS c * y = 0) := fun n => by
      have := kt_00 h n.1 n.2
      omega
    unfold BF
    omega
  · intro g x y hx hx4 hy hy4 bad
    obtain ⟨e, f, hl, hf, q, d⟩ := (TD_Y h hx).1 bad.1
    have b := g e f hl hf q
    have a1 := kU_d d
    have a2 := kV_d d
    have b2 := bad.2
    unfold BF at b
    omega
def FR (c : Cf) (s : Prop) : Prop := ∀ e f : Nat, e < f → f < kN c * kN c → ¬ (TC c e f ∧ (kU c e = kU c f ↔ s))
theorem ad_Y {c : Cf} (h : OK c) (s : Prop) : ¬ ad2 c s 0 ↔ FR c s := by
  have key : ∀ {e f : Nat} {x y : Int}, dist c e f x y → (kU c e = kU c f ↔ kP c * x + kQ c * y = 0) := by
    intro e f x y d
    have a1 := kU_d d
    constructor
    · intro z; omega
    · intro z; omega
  constructor
  · intro g e f hl hf q
    obtain ⟨x, y, d⟩ := dist_of c e f
    have z := dist_l h hl hf d
    exact g ⟨x, y, z.1.1, z.1.2, z.2.1.1, z.2.1.2, TD_e h hl hf d q.1, (key d).symm.trans q.2⟩
  · rintro g ⟨x, y, hx, hx4, hy, hy4, t, s1⟩
    obtain ⟨e, f, hl, hf, q, d⟩ := (TD_Y h hx).1 t
    exact g e f hl hf ⟨q, (key d).trans s1⟩
theorem cn_Y {c : Cf} (h : OK c) {T : Int64} (hT : TG c T) : cn (tb T) 45 = cn (fun b => YD c ((b / 9 : Nat) : Int) (((b % 9 : Nat) : Int) - 4)) 45 := by
  refine cn_c 45 (fun b hb => ?_)
  have t := hT ((b / 9 : Nat) : Int) (((b % 9 : Nat) : Int) - 4) (by omega) (by omega) (by omega) (by omega)
  have e : (9 * ((b / 9 : Nat) : Int) + (((b % 9 : Nat) : Int) - 4) + 4).toNat = b := by omega
  rw [e] at t
  rw [t]
  exact TD_Y h (by omega)
end
section
/-! iterations that do not touch commute; a legal order leaves what the source order leaves -/
theorem up_c {M : Nat → Int32} {a b : Nat} {x y : Int32} (h : a ≠ b) : upd (upd M a x) b y = upd (upd M b y) a x := by
  funext k
  unfold upd
  by_cases h1 : k = b
  · by_cases h2 : k = a
    · exact absurd (h2.symm.trans h1) h
    · rw [if_pos h1, if_neg h2, if_pos h1]
  · by_cases h2 : k = a
    · rw [if_neg h1, if_pos h2, if_pos h2]
    · rw [if_neg h1, if_neg h2, if_neg h2, if_neg h1]
/-- statement t in (i, j) and statement t' in (i', j') touch no common cell -/
def NS (c : Cf) (t t' : Nat) (i j i' j' : Int) : Prop :=
  (kl c (kD c t') i' j' ≠ kl c (kD c t) i j ∧ kl c (kL c t') i' j' ≠ kl c (kD c t) i j ∧ kl c (kG c t') i' j' ≠ kl c (kD c t) i j) ∧
  (kl c (kL c t) i j ≠ kl c (kD c t') i' j' ∧ kl c (kG c t) i j ≠ kl c (kD c t') i' j')
def inN (c : Cf) (i j : Int) : Prop := (0 ≤ i ∧ i < kN c) ∧ (0 ≤ j ∧ j < kN c)
theorem kl_ne {c : Cf} (h : OK c) {k l : Nat} {i j i' j' : Int} (a : inN c i j) (b : inN c i' j') (q : kl c k i j ≠ kl c l i' j') : (kl c k i j).toNat ≠ (kl c l i' j').toNat := by
  have x := (OK_a h k).2.2.2 i j a.1.1 a.1.2 a.2.1 a.2.2
  have y := (OK_a h l).2.2.2 i' j' b.1.1 b.1.2 b.2.1 b.2.2
  omega
theorem st_c {c : Cf} (h : OK c) {t t' : Nat} {i j i' j' : Int} (a : inN c i j) (b : inN c i' j') (n : NS c t t' i j i' j') (M : Nat → Int32) :
    st1 c t i j (st1 c t' i' j' M) = st1 c t' i' j' (st1 c t i j M) := by
  have e1 := kl_ne h b a n.1.1
  have e2 := kl_ne h b a n.1.2.1
  have e3 := kl_ne h b a n.1.2.2
  have e4 := kl_ne h a b n.2.1
  have e5 := kl_ne h a b n.2.2
  unfold st1
  rw [pk_un e4, pk_un e5, pk_un e2, pk_un e3]
  exact up_c e1
theorem st_R {c : Cf} (h : OK c) {t : Nat} {i j i' j' : Int} (a : inN c i j) (b : inN c i' j') : ∀ (r t' : Nat) (M : Nat → Int32), (∀ t'', t' ≤ t'' → t'' < t' + r → NS c t t'' i j i' j') →
    stR c i' j' r t' (st1 c t i j M) = st1 c t i j (stR c i' j' r t' M) := by
  intro r
  induction r with
  | zero => intro t' M _; rfl
  | succ r ih =>
    intro t' M n
    rw [stR, stR, ← st_c h a b (n t' (Nat.le_refl _) (by omega)), ih (t' + 1) _ (fun t'' x y => n t'' (by omega) (by omega))]
theorem stR_c {c : Cf} (h : OK c) {i j i' j' : Int} (a : inN c i j) (b : inN c i' j') (r' t' : Nat) : ∀ (r t : Nat) (M : Nat → Int32), (∀ t1 t2, t ≤ t1 → t1 < t + r → t' ≤ t2 → t2 < t' + r' → NS c t1 t2 i j i' j') →
    stR c i' j' r' t' (stR c i j r t M) = stR c i j r t (stR c i' j' r' t' M) := by
  intro r
  induction r with
  | zero => intro t M _; rfl
  | succ r ih =>
    intro t M n
    rw [stR, stR, ih (t + 1) _ (fun t1 t2 x y => n t1 t2 (by omega) (by omega)), st_R h a b r' t' M (fun t'' x y => n t t'' (Nat.le_refl _) (by omega) x y)]
/-- iteration e -/
noncomputable def bd (c : Cf) (e : Nat) (M : Nat → Int32) : Nat → Int32 := stR c (e / kN c : Nat) (e % kN c : Nat) (km c) 0 M
theorem inN_e {c : Cf} (h : OK c) {e : Nat} (he : e < kN c * kN c) : inN c (e / kN c : Nat) (e % kN c : Nat) := by
  have := eo_r (OK_N h) he
  exact ⟨by omega, by omega⟩
theorem bd_c {c : Cf} (h : OK c) {e f : Nat} (he : e < kN c * kN c) (hf : f < kN c * kN c) (n : ¬ TC c e f) (M : Nat → Int32) : bd c f (bd c e M) = bd c e (bd c f M) := by
  refine stR_c h (inN_e h he) (inN_e h hf) (km c) 0 (km c) 0 M (fun t1 t2 _ q1 _ q2 => ?_)
  have n1 : ¬ RC c e f := fun q => n (Or.inl q)
  have n2 : ¬ RC c f e := fun q => n (Or.inr q)
  have q1' : t1 < km c := by omega
  have q2' : t2 < km c := by omega
  exact ⟨⟨fun q => n1 ⟨t1, t2, q1', q2', Or.inl q⟩, fun q => n1 ⟨t1, t2, q1', q2', Or.inr (Or.inl q)⟩, fun q => n1 ⟨t1, t2, q1', q2', Or.inr (Or.inr q)⟩⟩,
    fun q => n2 ⟨t2, t1, q2', q1', Or.inr (Or.inl q)⟩, fun q => n2 ⟨t2, t1, q2', q1', Or.inr (Or.inr q)⟩⟩
noncomputable def fd (c : Cf) (L : List Nat) (M : Nat → Int32) : Nat → Int32 := L.foldl (fun M e => bd c e M) M
theorem fd_a (c : Cf) (L1 L2 : List Nat) (M : Nat → Int32) : fd c (L1 ++ L2) M = fd c L2 (fd c L1 M) := List.foldl_append ..
theorem fd_n (c : Cf) (e : Nat) (L : List Nat) (M : Nat → Int32) : fd c (e :: L) M = fd c L (bd c e M) := rfl
theorem fd_1 (c : Cf) (e : Nat) (L : List Nat) (M : Nat → Int32) : fd c (L ++ [e]) M = bd c e (fd c L M) := by rw [fd_a]; rfl
theorem fd_c {c : Cf} (h : OK c) {k : Nat} (hk : k < kN c * kN c) : ∀ (L : List Nat) (M : Nat → Int32), (∀ f, f ∈ L → f < kN c * kN c ∧ ¬ TC c f k) → fd c L (bd c k M) = bd c k (fd c L M) := by
  intro L
  induction L with
  | nil => intro M _; rfl
  | cons f L ih =>
    intro M n
    have nf := n f (List.mem_cons_self ..)
    rw [fd_n, fd_n, ← bd_c h nf.1 hk nf.2, ih _ (fun g hg => n g (List.mem_cons_of_mem _ hg))]
theorem BF_t {c : Cf} {e f g : Nat} (h1 : BF c e f) (h2 : BF c f g) : BF c e g := by unfold BF at *; omega
theorem BF_i {c : Cf} {e : Nat} : ¬ BF c e e := by unfold BF; omega
theorem fd_s {c : Cf} (h : OK c) (hY : YL c) : ∀ (k : Nat) (L : List Nat), k ≤ kN c * kN c → L.Pairwise (BF c) → (∀ e, e ∈ L ↔ e < k) → (∀ M, fd c L M = fd c (List.range k) M) ∧ L.length = k := by
  intro k
  induction k with
  | zero =>
    intro L _ _ hm
    have : L = [] := List.eq_nil_iff_forall_not_mem.mpr (fun e he => by have := (hm e).1 he; omega)
    subst this
    exact ⟨fun _ => rfl, rfl⟩
  | succ k ih =>
    intro L hk hp hm
    obtain ⟨L1, L2, rfl⟩ := List.append_of_mem ((hm k).2 (Nat.lt_succ_self k))
    rw [List.pairwise_append, List.pairwise_cons] at hp
    obtain ⟨p1, ⟨p2, p3⟩, p4⟩ := hp
    have n1 : k ∉ L1 := fun q => BF_i (p4 k q k (List.mem_cons_self ..))
    have n2 : k ∉ L2 := fun q => BF_i (p2 k q)
    have hm' : ∀ e, e ∈ L1 ++ L2 ↔ e < k := by
      intro e
      have := hm e
      rw [List.mem_append, List.mem_cons] at this
      rw [List.mem_append]
      constructor
      · intro q
        have ne : e ≠ k := by
          rintro rfl
          rcases q with q | q
          · exact n1 q
          · exact n2 q
        have l : e < k + 1 := this.1 (by rcases q with q | q <;> simp [q])
        omega
      · intro q
        rcases this.2 (by omega) with z | z | z
        · exact Or.inl z
        · omega
        · exact Or.inr z
    have pp : (L1 ++ L2).Pairwise (BF c) := List.pairwise_append.mpr ⟨p1, p3, fun a ha b hb => p4 a ha b (List.mem_cons_of_mem _ hb)⟩
    obtain ⟨r1, r2⟩ := ih (L1 ++ L2) (by omega) pp hm'
    constructor
    · intro M
      rw [fd_a, fd_n, fd_c h (by omega) L2 _ (fun f hf => ?_), ← fd_a, r1 M, List.range_succ, fd_1]
      have lt : f < k := (hm' f).1 (List.mem_append.mpr (Or.inr hf))
      refine ⟨by omega, fun q => ?_⟩
      exact BF_i (BF_t (p2 f hf) (hY f k lt (by omega) q))
    · rw [List.length_append, List.length_cons]
      rw [List.length_append] at r2
      omega
end
section
/-! counting: ranks, rows -/
theorem cn_a {p q r : Nat → Prop} : ∀ k, (∀ e, e < k → (p e ↔ (q e ∨ r e))) → (∀ e, e < k → ¬ (q e ∧ r e)) → cn p k = cn q k + cn r k := by
  intro k
  induction k with
  | zero => intro _ _; rfl
  | succ k ih =>
    intro h1 h2
    have i := ih (fun e he => h1 e (by omega)) (fun e he => h2 e (by omega))
    have a := h1 k (by omega)
    have b := h2 k (by omega)
    rw [cn, cn, cn, i]
    rcases Classical.em (q k) with z | z
    · have z2 : ¬ r k := fun z2 => b ⟨z, z2⟩
      rw [zN_t z, zN_f z2, zN_t (a.2 (Or.inl z))]; omega
    · rcases Classical.em (r k) with z2 | z2
      · rw [zN_f z, zN_t z2, zN_t (a.2 (Or.inr z2))]; omega
      · rw [zN_f z, zN_f z2, zN_f (fun z3 => (a.1 z3).elim z z2)]; omega
theorem cn_0 {p : Nat → Prop} : ∀ k, (∀ e, e < k → ¬ p e) → cn p k = 0 := by
  intro k
  induction k with
  | zero => intro _; rfl
  | succ k ih =>
    intro h
    rw [cn, ih (fun e he => h e (by omega)), zN_f (h k (by omega))]
theorem cn_all {p : Nat → Prop} : ∀ k, (∀ e, e < k → p e) → cn p k = k := by
  intro k
  induction k with
  | zero => intro _; rfl
  | succ k ih =>
    intro h
    rw [cn, ih (fun e he => h e (by omega)), zN_t (h k (by omega))]
theorem cn_1 {p : Nat → Prop} {e0 : Nat} : ∀ k, e0 < k → (∀ e, e < k → (p e ↔ e = e0)) → cn p k = 1 := by
  intro k
  induction k with
  | zero => intro h _; omega
  | succ k ih =>
    intro h g
    rcases Nat.lt_or_eq_of_le (Nat.le_of_lt_succ h) with z | z
    · rw [cn, ih z (fun e he => g e (by omega)), zN_f (fun q => by have := (g k (by omega)).1 q; omega)]
    · subst z
      rw [cn, cn_0 _ (fun e he q => by have := (g e (by omega)).1 q; omega), zN_t ((g e0 (by omega)).2 rfl)]
theorem cn_m {p q : Nat → Prop} (k : Nat) (h : ∀ e, e < k → p e → q e) : cn p k ≤ cn q k := by
  have := cn_a (p := q) (q := p) (r := fun e => q e ∧ ¬ p e) k (fun e he => ⟨fun z => by
    rcases Classical.em (p e) with y | y
    · exact Or.inl y
    · exact Or.inr ⟨z, y⟩, fun z => z.elim (h e he) (fun y => y.1)⟩) (fun e he z => z.2.2 z.1)
  omega
theorem cn_lt {p q : Nat → Prop} {e0 : Nat} (k : Nat) (h : ∀ e, e < k → p e → q e) (h0 : e0 < k) (h1 : q e0) (h2 : ¬ p e0) : cn p k < cn q k := by
  have a := cn_a (p := fun e => p e ∨ e = e0) (q := p) (r := fun e => e = e0) k (fun e he => Iff.rfl) (fun e he z => h2 (z.2 ▸ z.1))
  have b := cn_1 (p := fun e => e = e0) k h0 (fun e he => Iff.rfl)
  have d := cn_m (p := fun e => p e ∨ e = e0) (q := q) k (fun e he z => z.elim (h e he) (fun y => y ▸ h1))
  omega
/-- how many iterations come before e in the new order -/
noncomputable def rk (c : Cf) (e : Nat) : Nat := cn (fun f => BF c f e) (kN c * kN c)
theorem BF_tot {c : Cf} (h : OK c) {e f : Nat} (n : e ≠ f) : BF c e f ∨ BF c f e := by
  obtain ⟨x, y, d⟩ := dist_of c e f
  have a1 := kU_d d
  have a2 := kV_d d
  have nz : ¬ (kP c * x + kQ c * y = 0 ∧ kR c * x + kS c * y = 0) := fun z => by
    have := kt_00 h z.1 z.2
    obtain ⟨d1, d2⟩ := d
    exact n (eo_eq (N := kN c) (by omega) (by omega))
  unfold BF
  omega
theorem rk_lt {c : Cf} {e f : Nat} (he : e < kN c * kN c) (b : BF c e f) : rk c e < rk c f :=
  cn_lt (e0 := e) _ (fun g _ z => BF_t z b) he b BF_i
theorem rk_inj {c : Cf} (h : OK c) {e f : Nat} (he : e < kN c * kN c) (hf : f < kN c * kN c) (r : rk c e = rk c f) : e = f := by
  rcases Nat.decEq e f with n | n
  · rcases BF_tot h n with b | b
    · have := rk_lt he b; omega
    · have := rk_lt hf b; omega
  · exact n
theorem rk_b {c : Cf} {e : Nat} (he : e < kN c * kN c) : rk c e < kN c * kN c := by
  have := cn_lt (p := fun f => BF c f e) (q := fun _ => True) (e0 := e) (kN c * kN c) (fun _ _ _ => trivial) he trivial BF_i
  rw [cn_all _ (fun _ _ => trivial)] at this
  exact this
/-- an iteration's (u, v), and back -/
theorem inB_e {c : Cf} (h : OK c) {e : Nat} (he : e < kN c * kN c) : inB c (kU c e) (kV c e) ∧ oI c (kU c e) (kV c e) = (e / kN c : Nat) ∧ oJ c (kU c e) (kV c e) = (e % kN c : Nat) := by
  have a := kt_i h (e / kN c : Nat) (e % kN c : Nat)
  have b := kt_j h (e / kN c : Nat) (e % kN c : Nat)
  have r := eo_r (OK_N h) he
  have a' : oI c (kU c e) (kV c e) = (e / kN c : Nat) := a
  have b' : oJ c (kU c e) (kV c e) = (e % kN c : Nat) := b
  refine ⟨?_, a', b'⟩
  unfold inB
  rw [a', b']
  omega
theorem e_inB {c : Cf} (h : OK c) {u v : Int} (b : inB c u v) : ∃ e : Nat, e < kN c * kN c ∧ kU c e = u ∧ kV c e = v ∧ oI c u v = (e / kN c : Nat) ∧ oJ c u v = (e % kN c : Nat) := by
  obtain ⟨e, e1, e2, e3⟩ := eo_mk (OK_N h) b.1 b.2
  refine ⟨e, e1, ?_, ?_, e2.symm, e3.symm⟩
  · unfold kU; rw [e2, e3]; exact kt_u h u v
  · unfold kV; rw [e2, e3]; exact kt_v h u v
theorem uv_inj {c : Cf} (h : OK c) {e f : Nat} (h1 : kU c e = kU c f) (h2 : kV c e = kV c f) : e = f := by
  rcases Nat.decEq e f with n | n
  · rcases BF_tot h n with b | b
    · unfold BF at b; omega
    · unfold BF at b; omega
  · exact n
theorem wd_v {c : Cf} (h : OK c) {u l hh : Int} (B : BB c u l hh) : ∀ d : Nat, l + d ≤ hh + 1 → cn (fun e => kU c e = u ∧ kV c e < l + d) (kN c * kN c) = d := by
  intro d
  induction d with
  | zero =>
    intro _
    refine cn_0 _ (fun e he z => ?_)
    have i := (inB_e h he).1
    rw [z.1] at i
    have := (B.2.2 (kV c e)).2 i
    have := z.2
    omega
  | succ d ih =>
    intro hd
    have i := ih (by omega)
    obtain ⟨e0, e1, e2, e3, _⟩ := e_inB h ((B.2.2 (l + d)).1 ⟨by omega, by omega⟩)
    have a := cn_a (p := fun e => kU c e = u ∧ kV c e < l + (d + 1 : Nat)) (q := fun e => kU c e = u ∧ kV c e < l + d) (r := fun e => e = e0) (kN c * kN c)
      (fun e he => ⟨fun z => by
        rcases Int.lt_or_eq_of_le (show kV c e ≤ l + d by omega) with y | y
        · exact Or.inl ⟨z.1, y⟩
        · exact Or.inr (uv_inj h (by omega) (by omega)), fun z => by
        rcases z with z | z
        · exact ⟨z.1, by omega⟩
        · subst z; exact ⟨e2, by omega⟩⟩)
      (fun e he z => by have := z.2; subst this; have := z.1.2; omega)
    have b := cn_1 (p := fun e => e = e0) (kN c * kN c) e1 (fun e he => Iff.rfl)
    omega
/-- how many iterations have one u -/
theorem wd_u {c : Cf} (h : OK c) {u l hh : Int} (B : BB c u l hh) : ((cn (fun e => kU c e = u) (kN c * kN c) : Nat) : Int) = if hh - l + 1 ≤ 0 then 0 else hh - l + 1 := by
  by_cases z : hh - l + 1 ≤ 0
  · rw [if_pos z, cn_0 _ (fun e he q => ?_)]
    · rfl
    · have i := (inB_e h he).1
      rw [q] at i
      have := (B.2.2 (kV c e)).2 i
      omega
  · rw [if_neg z]
    have := wd_v h B (hh - l + 1).toNat (by omega)
    rw [cn_c (q := fun e => kU c e = u ∧ kV c e < l + (hh - l + 1).toNat) _ (fun e he => ⟨fun q => ⟨q, ?_⟩, fun q => q.1⟩), this]
    · omega
    · have i := (inB_e h he).1
      rw [q] at i
      have := (B.2.2 (kV c e)).2 i
      omega
theorem wd_lt {c : Cf} (u : Int) : cn (fun e => kU c e < u + 1) (kN c * kN c) = cn (fun e => kU c e < u) (kN c * kN c) + cn (fun e => kU c e = u) (kN c * kN c) :=
  cn_a _ (fun e he => by omega) (fun e he => by omega)
/-- the rank of the iteration at (u, v) -/
theorem rk_uv {c : Cf} (h : OK c) {u l hh : Int} (B : BB c u l hh) {d : Nat} (hd : l + d ≤ hh) : ∃ e : Nat, e < kN c * kN c ∧ oI c u (l + d) = (e / kN c : Nat) ∧ oJ c u (l + d) = (e % kN c : Nat) ∧ rk c e = cn (fun e => kU c e < u) (kN c * kN c) + d := by
  obtain ⟨e, e1, e2, e3, e4, e5⟩ := e_inB h ((B.2.2 (l + d)).1 ⟨by omega, by omega⟩)
  refine ⟨e, e1, e4, e5, ?_⟩
  have a := cn_a (p := fun f => BF c f e) (q := fun f => kU c f < u) (r := fun f => kU c f = u ∧ kV c f < l + d) (kN c * kN c) (fun f hf => by unfold BF; rw [e2, e3]) (fun f hf => by omega)
  have b := wd_v h B d (by omega)
  unfold rk
  omega
theorem kU_b {c : Cf} (h : OK c) {e : Nat} (he : e < kN c * kN c) : -24 ≤ kU c e ∧ kU c e ≤ 24 := (kt_24 h (inB_e h he).1).1
/-- as many rows as first iterations of a row -/
theorem rows_e {c : Cf} (h : OK c) : ∀ k, k ≤ kN c * kN c → cn (fun b => ∃ e, e < k ∧ kU c e = (b : Int) - 40) 81 = cn (fun e => ∀ f, f < e → kU c f ≠ kU c e) k := by
  intro k
  induction k with
  | zero =>
    intro _
    exact cn_0 _ (fun b _ z => by obtain ⟨e, z1, _⟩ := z; omega)
  | succ k ih =>
    intro hk
    have i := ih (by omega)
    have kb := kU_b h (e := k) (by omega)
    rw [cn_s _ k]
    rcases Classical.em (∀ f, f < k → kU c f ≠ kU c k) with z | z
    · rw [zN_t z, ← i]
      have a := cn_a (p := fun b : Nat => ∃ e, e < k + 1 ∧ kU c e = (b : Int) - 40) (q := fun b : Nat => ∃ e, e < k ∧ kU c e = (b : Int) - 40) (r := fun b : Nat => b = (kU c k + 40).toNat) 81
        (fun b hb => ⟨fun y => by
          obtain ⟨e, y1, y2⟩ := y
          rcases Nat.lt_or_eq_of_le (Nat.le_of_lt_succ y1) with y3 | y3
          · exact Or.inl ⟨e, y3, y2⟩
          · subst y3; exact Or.inr (by omega), fun y => by
          rcases y with ⟨e, y1, y2⟩ | y
          · exact ⟨e, by omega, y2⟩
          · exact ⟨k, by omega, by omega⟩⟩)
        (fun b hb y => by
          obtain ⟨⟨e, y1, y2⟩, y3⟩ := y
          exact z e y1 (by omega))
      have b := cn_1 (p := fun b => b = (kU c k + 40).toNat) (e0 := (kU c k + 40).toNat) 81 (by omega) (fun _ _ => Iff.rfl)
      rw [a, b]
    · rw [zN_f z, Nat.add_zero, ← i]
      have key : ∀ b : Nat, b < 81 → ((∃ e, e < k + 1 ∧ kU c e = (b : Int) - 40) ↔ (∃ e, e < k ∧ kU c e = (b : Int) - 40)) := by
        intro b hb
        constructor
        · rintro ⟨e, y1, y2⟩
          rcases Nat.lt_or_eq_of_le (Nat.le_of_lt_succ y1) with y3 | y3
          · exact ⟨e, y3, y2⟩
          · subst y3
            apply Classical.byContradiction
            intro n
            exact z (fun f hf q => n ⟨f, hf, q.trans y2⟩)
        · rintro ⟨e, y1, y2⟩
          exact ⟨e, by omega, y2⟩
      exact cn_c (p := fun b : Nat => ∃ e, e < k + 1 ∧ kU c e = (b : Int) - 40) (q := fun b : Nat => ∃ e, e < k ∧ kU c e = (b : Int) - 40) 81 key
theorem rows_b {c : Cf} (h : OK c) {u l hh : Int} (B : BB c u l hh) : (∃ e, e < kN c * kN c ∧ kU c e = u) ↔ ¬ hh < l := by
  constructor
  · rintro ⟨e, he, q⟩
    have i := (inB_e h he).1
    rw [q] at i
    have := (B.2.2 (kV c e)).2 i
    omega
  · intro z
    obtain ⟨e, e1, e2, _⟩ := e_inB h ((B.2.2 l).1 ⟨by omega, by omega⟩)
    exact ⟨e, e1, e2⟩
end
section
/-! X: run, iteration, rows, digest -/
def RI (c : Cf) (u v : Int) (L : List Nat) : Prop := L.Pairwise (BF c) ∧ ∀ e, e ∈ L ↔ (e < kN c * kN c ∧ (kU c e < u ∨ kU c e = u ∧ kV c e < v))
def RJ (c : Cf) (u : Int) (L : List Nat) : Prop := L.Pairwise (BF c) ∧ ∀ e, e ∈ L ↔ (e < kN c * kN c ∧ kU c e < u)
theorem RJ_I {c : Cf} (h : OK c) {u l hh : Int} (B : BB c u l hh) {L : List Nat} (r : RJ c u L) : RI c u l L := by
  refine ⟨r.1, fun e => ?_⟩
  rw [r.2 e]
  refine ⟨fun z => ⟨z.1, Or.inl z.2⟩, fun z => ⟨z.1, ?_⟩⟩
  rcases z.2 with y | y
  · exact y
  · have i := (inB_e h z.1).1
    rw [y.1] at i
    have := (B.2.2 (kV c e)).2 i
    omega
theorem RI_J {c : Cf} (h : OK c) {u v l hh : Int} (B : BB c u l hh) (hv : hh < v) {L : List Nat} (r : RI c u v L) : RJ c (u + 1) L := by
  refine ⟨r.1, fun e => ?_⟩
  rw [r.2 e]
  refine ⟨fun z => ⟨z.1, by omega⟩, fun z => ⟨z.1, ?_⟩⟩
  rcases Int.lt_or_eq_of_le (show kU c e ≤ u by omega) with y | y
  · exact Or.inl y
  · have i := (inB_e h z.1).1
    rw [y] at i
    have := (B.2.2 (kV c e)).2 i
    exact Or.inr ⟨y, by omega⟩
theorem RI_s {c : Cf} (h : OK c) {u v : Int} {L : List Nat} (r : RI c u v L) {e : Nat} (he : e < kN c * kN c) (e1 : kU c e = u) (e2 : kV c e = v) : RI c u (v + 1) (L ++ [e]) := by
  constructor
  · refine List.pairwise_append.mpr ⟨r.1, List.pairwise_singleton _ _, fun a ha b hb => ?_⟩
    rw [List.mem_singleton] at hb
    subst hb
    have := ((r.2 a).1 ha).2
    unfold BF
    omega
  · intro f
    rw [List.mem_append, List.mem_singleton, r.2 f]
    constructor
    · rintro (z | z)
      · exact ⟨z.1, by omega⟩
      · subst z; exact ⟨he, by omega⟩
    · rintro ⟨z1, z2⟩
      rcases Nat.decEq f e with n | n
      · left
        refine ⟨z1, ?_⟩
        rcases z2 with z2 | z2
        · exact Or.inl z2
        · rcases Int.lt_or_eq_of_le (show kV c f ≤ v by omega) with y | y
          · exact Or.inr ⟨z2.1, y⟩
          · exact absurd (uv_inj h (by omega) (by omega)) n
      · exact Or.inr n
theorem xw_oldI {c : Cf} {u v : Int} (post : Int32 → Prop) (kn : Int32) (T : Int64) (lo hi : Int32) (M : Nat → Int32) (hp : post (zI (oI c u v))) : wpX_oldI post (XS c kn T lo hi M) (zI u) (zI v) := by
  simp only [wpX_oldI, XS, zI_mul, zI_sub]
  exact hp
theorem xw_oldJ {c : Cf} {u v : Int} (post : Int32 → Prop) (kn : Int32) (T : Int64) (lo hi : Int32) (M : Nat → Int32) (hp : post (zI (oJ c u v))) : wpX_oldJ post (XS c kn T lo hi M) (zI u) (zI v) := by
  simp only [wpX_oldJ, XS, zI_mul, zI_sub]
  exact hp
theorem xm_r31 {c : Cf} (h : OK c) {u l hh : Int} (hu : -40 ≤ u ∧ u ≤ 40) (B : BB c u l hh) (post : Int32 → SX → Prop) (J15 : Int32 → Int32 → Int32 → Int32 → Int32 → Int32 → Int32 → Int32 → Int32 → Int64 → Int32 → Int32 → (Nat → Int32) → (Nat → Int32) → (Nat → Int32) → (Nat → Int32) → (Nat → Int32) → (Nat → Int32) → (Nat → Int32) → (Nat → Int32) → Prop) (kn : Int32) (T : Int64) (M : Nat → Int32)
    (hp : ∀ L, RJ c (u + 1) L → J15 (zI (L.length : Nat)) (zI (u + 1)) (zI (kN c)) (zI (km c)) (zI (kP c)) (zI (kQ c)) (zI (kR c)) (zI (kS c)) kn T (zI l) (zI hh) (fd c L M) (jA c) (jB c) (jC c) (jO c) (jD c) (jL c) (jG c)) :
    ∀ (n : Nat) (v : Int) (L : List Nat), -600 ≤ v ∧ v ≤ 601 → l ≤ v → (hh + 1 - v).toNat < n → RI c u v L →
    wX_run_31 post J15 (zI u) n (zI (L.length : Nat)) (zI v) (zI (kN c)) (zI (km c)) (zI (kP c)) (zI (kQ c)) (zI (kR c)) (zI (kS c)) kn T (zI l) (zI hh) (fd c L M) (jA c) (jB c) (jC c) (jO c) (jD c) (jL c) (jG c) := by
  have hB1 := B.1
  have hB2 := B.2.1
  intro n
  induction n with
  | zero => intro v L _ _ h; omega
  | succ n ih =>
    intro v L hv hlv hm r
    refine br_c (fun e => ?_) (fun e => ?_)
    · rw [zI_lt (by omega) (by omega)] at e
      exact nm_r (e' := zI (u + 1)) (by rw [z_1, zI_add]) (hp L (RI_J h B e r))
    · rw [zI_lt (by omega) (by omega)] at e
      have ib := (B.2.2 v).1 ⟨hlv, by omega⟩
      obtain ⟨f, f1, f2, f3, f4, f5⟩ := e_inB h ib
      refine xw_oldI _ kn T (zI l) (zI hh) (fd c L M) ?_
      refine xw_oldJ _ kn T (zI l) (zI hh) (fd c L M) ?_
      refine xw_body h ib.1 ib.2 _ kn T (zI l) (zI hh) (fd c L M) ?_
      refine nm_r (e' := zI ((L ++ [f]).length : Nat)) (by rw [List.length_append, z_1, zI_add]; rfl) (nm_r (e' := zI (v + 1)) (by rw [z_1, zI_add]) ?_)
      have := ih (v + 1) (L ++ [f]) (by omega) (by omega) (by omega) (RI_s h r f1 f2 f3)
      rw [fd_1] at this
      rw [f4, f5]
      exact this
theorem xm_r15 {c : Cf} (h : OK c) (post : Int32 → SX → Prop) (kn : Int32) (T : Int64) (M : Nat → Int32)
    (hp : ∀ L lo hi, RJ c 41 L → post (zI (L.length : Nat)) (XS c kn T lo hi (fd c L M))) :
    ∀ (n : Nat) (u : Int) (L : List Nat) (lo hi : Int32), -40 ≤ u ∧ u ≤ 41 → (41 - u).toNat < n → RJ c u L →
    wX_run_15 post n (zI (L.length : Nat)) (zI u) (zI (kN c)) (zI (km c)) (zI (kP c)) (zI (kQ c)) (zI (kR c)) (zI (kS c)) kn T lo hi (fd c L M) (jA c) (jB c) (jC c) (jO c) (jD c) (jL c) (jG c) := by
  intro n
  induction n with
  | zero => intro u L _ _ _ h; omega
  | succ n ih =>
    intro u L lo hi hu hm r
    refine br_c (fun e => ?_) (fun e => ?_)
    · rw [z_40, zI_lt (by omega) (by omega)] at e
      have : u = 41 := by omega
      subst this
      exact hp L lo hi r
    · rw [z_40, zI_lt (by omega) (by omega)] at e
      refine xw_bounds h (by omega) _ kn T lo hi (fd c L M) (fun l hh B => ?_)
      have hB1 := B.1
      have hB2 := B.2.1
      refine ⟨2000, ?_⟩
      exact xm_r31 h (by omega) B post _ kn T M (fun L' r' => ih (u + 1) L' (zI l) (zI hh) (by omega) (by omega) r') 2000 l L (by omega) (by omega) (by omega) (RJ_I h B r)
theorem RJ_0 {c : Cf} (h : OK c) : RJ c (-40) [] := by
  refine ⟨List.Pairwise.nil, fun e => ⟨fun z => absurd z (List.not_mem_nil), fun z => ?_⟩⟩
  have := kU_b h z.1
  omega
theorem RJ_41 {c : Cf} (h : OK c) {L : List Nat} (r : RJ c 41 L) : L.Pairwise (BF c) ∧ ∀ e, e ∈ L ↔ e < kN c * kN c := by
  refine ⟨r.1, fun e => ?_⟩
  rw [r.2 e]
  refine ⟨fun z => z.1, fun z => ⟨z, ?_⟩⟩
  have := kU_b h z
  omega
theorem xw_run {c : Cf} (h : OK c) (post : Int32 → SX → Prop) (kn : Int32) (T : Int64) (lo hi : Int32) (M : Nat → Int32) (hk : KG c kn T)
    (h0 : ¬ YL c → ∀ kn' T', TG c T' → post (zI (-3)) (XS c kn' T' lo hi M))
    (h1 : YL c → ∀ kn' T' lo' hi', TG c T' → post (zI (kN c * kN c : Nat)) (XS c kn' T' lo' hi' (fd c (List.range (kN c * kN c)) M))) : wpX_run post (XS c kn T lo hi M) := by
  unfold wpX_run
  refine xw_legal h _ kn T lo hi M hk (fun kn' T' hT => ?_)
  rw [zB_c (lg_Y h)]
  refine zB_br (fun g => ?_) (fun g => ⟨100, ?_⟩)
  · exact h0 g kn' T' hT
  · refine xm_r15 h post kn' T' M (fun L lo' hi' r => ?_) 100 (-40) [] lo hi (by omega) (by decide) (RJ_0 h)
    have a := RJ_41 h r
    obtain ⟨b1, b2⟩ := fd_s h g (kN c * kN c) L (Nat.le_refl _) a.1 a.2
    rw [b1 M, b2]
    exact h1 g kn' T' lo' hi' hT
theorem xm_i24 {c : Cf} (h : OK c) {k : Nat} (hk : k < kN c * kN c) (post : Int32 → SX → Prop) (kn : Int32) (T : Int64) (M : Nat → Int32)
    (hp : ∀ e lo hi, e < kN c * kN c → rk c e = k → post (zI (8 * ((e / kN c : Nat) : Int) + ((e % kN c : Nat) : Int))) (XS c kn T lo hi M)) :
    ∀ (n : Nat) (u : Int) (a : Nat) (lo hi : Int32), -40 ≤ u ∧ u ≤ 41 → (41 - u).toNat < n → cn (fun e => kU c e < u) (kN c * kN c) + a = k →
    wX_iteration_24 post n (zI a) (zI u) (zI (kN c)) (zI (km c)) (zI (kP c)) (zI (kQ c)) (zI (kR c)) (zI (kS c)) kn T lo hi M (jA c) (jB c) (jC c) (jO c) (jD c) (jL c) (jG c) := by
  have hK := eo_K (OK_N h)
  intro n
  induction n with
  | zero => intro u a _ _ _ h; omega
  | succ n ih =>
    intro u a lo hi hu hm hc
    refine br_c (fun e => ?_) (fun e => ?_)
    · rw [z_40, zI_lt (by omega) (by omega)] at e
      rw [cn_all _ (fun f hf => by have := kU_b h hf; omega)] at hc
      omega
    · rw [z_40, zI_lt (by omega) (by omega)] at e
      refine xw_bounds h (by omega) _ kn T lo hi M (fun l hh B => ?_)
      have hB1 := B.1
      have hB2 := B.2.1
      have w1 := wd_u h B
      have w2 := wd_lt (c := c) u
      refine nm_r (e' := zI (hh - l + 1)) (by rw [zI_sub, z_1, zI_add]) ?_
      simp (disch := omega) only [wX_iteration_90, wpX_oldI, wpX_oldJ, zI_add, zI_sub, zI_mul, zI_neg, zI_div, zT_m, zT_dn, zT_mn, zI_le, zI_lt, zI_eq, zI_cl, z_0, z_1, z_2, z_3, z_4, z_5, z_6, z_8, z_9, z_31, z_32, z_40, z_45, forall_eq]
      refine ⟨fun e1 => ⟨fun _ => ?_, fun e2 => absurd e1 e2⟩, fun e1 => ⟨fun e2 => ⟨fun e3 => absurd e3 e1, fun _ => ?_⟩, fun e2 => ?_⟩⟩
      · rw [if_pos e1] at w1
        rw [Int.sub_zero]
        exact ih (u + 1) a (zI l) (zI hh) (by omega) (by omega) (by omega)
      · rw [if_neg e1] at w1
        have ea : (a : Int) - (hh - l + 1) = ((a - (hh - l + 1).toNat : Nat) : Int) := by omega
        rw [ea]
        exact ih (u + 1) _ (zI l) (zI hh) (by omega) (by omega) (by omega)
      · obtain ⟨f, f1, f2, f3, f4⟩ := rk_uv h B (d := a) (by omega)
        have := hp f (zI l) (zI hh) f1 (by omega)
        rw [← f2, ← f3] at this
        exact this
theorem xw_iteration {c : Cf} (h : OK c) {k : Nat} (hk : k < kN c * kN c) (post : Int32 → SX → Prop) (kn : Int32) (T : Int64) (lo hi : Int32) (M : Nat → Int32)
    (hp : ∀ e lo hi, e < kN c * kN c → rk c e = k → post (zI (8 * ((e / kN c : Nat) : Int) + ((e % kN c : Nat) : Int))) (XS c kn T lo hi M)) : wpX_iteration post (XS c kn T lo hi M) (zI k) := by
  have hK := eo_K (OK_N h)
  refine br_f (by rw [z_0, zI_lt (by omega) (by omega)]; omega) (br_t (by rw [zI_mul, zI_lt (by omega) (by omega)]; omega) ⟨100, ?_⟩)
  refine xm_i24 h hk post kn T M hp 100 (-40) k lo hi (by omega) (by decide) ?_
  rw [cn_0 _ (fun f hf => by have := kU_b h hf; omega)]
  omega
theorem xm_w5 {c : Cf} (h : OK c) (post : Int32 → SX → Prop) (kn : Int32) (T : Int64) (M : Nat → Int32)
    (hp : ∀ lo hi, post (zI (cn (fun b => ∃ e, e < kN c * kN c ∧ kU c e = (b : Int) - 40) 81 : Nat)) (XS c kn T lo hi M)) :
    ∀ (n b : Nat) (lo hi : Int32), b ≤ 81 → 81 - b < n →
    wX_rows_5 post n (zI (cn (fun b => ∃ e, e < kN c * kN c ∧ kU c e = (b : Int) - 40) b : Nat)) (zI ((b : Int) - 40)) (zI (kN c)) (zI (km c)) (zI (kP c)) (zI (kQ c)) (zI (kR c)) (zI (kS c)) kn T lo hi M (jA c) (jB c) (jC c) (jO c) (jD c) (jL c) (jG c) := by
  intro n
  induction n with
  | zero => intro b _ _ _ h; omega
  | succ n ih =>
    intro b lo hi hb hm
    refine br_c (fun e => ?_) (fun e => ?_)
    · rw [z_40, zI_lt (by omega) (by omega)] at e
      have : b = 81 := by omega
      subst this
      exact hp lo hi
    · rw [z_40, zI_lt (by omega) (by omega)] at e
      refine xw_bounds h (by omega) _ kn T lo hi M (fun l hh B => ?_)
      have hB1 := B.1
      have hB2 := B.2.1
      have r := rows_b h B
      have eb : zI ((b : Int) - 40) + 1 = zI (((b + 1 : Nat) : Int) - 40) := by rw [z_1, zI_add]; exact congrArg zI (by omega)
      have i := ih (b + 1) (zI l) (zI hh) (by omega) (by omega)
      rw [cn_s _ b] at i
      refine br_c (fun e1 => ?_) (fun e1 => ?_)
      · rw [zI_lt (by omega) (by omega)] at e1
        rw [zN_f (fun z => r.1 z e1)] at i
        exact nm_r (by rw [z_0, zI_add]; exact congrArg zI (by omega)) (nm_r eb i)
      · rw [zI_lt (by omega) (by omega)] at e1
        rw [zN_t (r.2 e1)] at i
        exact nm_r (by rw [z_1, zI_add]; exact congrArg zI (by omega)) (nm_r eb i)
theorem xw_rows {c : Cf} (h : OK c) (post : Int32 → SX → Prop) (kn : Int32) (T : Int64) (lo hi : Int32) (M : Nat → Int32)
    (hp : ∀ lo hi, post (zI (cn (fun b => ∃ e, e < kN c * kN c ∧ kU c e = (b : Int) - 40) 81 : Nat)) (XS c kn T lo hi M)) : wpX_rows post (XS c kn T lo hi M) :=
  ⟨100, xm_w5 h post kn T M hp 100 0 lo hi (by omega) (by omega)⟩
/-- the digest -/
def dg (M : Nat → Int32) : Nat → Int32
  | 0 => zI 0
  | k + 1 => dg M k + (zI (k + 1 : Nat)) * M k
theorem xm_g4 {c : Cf} (post : Int32 → Prop) (kn : Int32) (T : Int64) (lo hi : Int32) (M : Nat → Int32) (hp : post (dg M 32)) :
    ∀ (n k : Nat), k ≤ 32 → 32 - k < n → wX_digest_4 post (zI (kN c)) (zI (km c)) (zI (kP c)) (zI (kQ c)) (zI (kR c)) (zI (kS c)) kn T lo hi M (jA c) (jB c) (jC c) (jO c) (jD c) (jL c) (jG c) n (dg M k) (zI k) := by
  intro n
  induction n with
  | zero => intro k _ h; omega
  | succ n ih =>
    intro k hk hm
    refine br_c (fun e => ?_) (fun e => ?_)
    · rw [z_32, zI_le (by omega) (by omega)] at e
      have : k = 32 := by omega
      subst this; exact hp
    · rw [z_32, zI_le (by omega) (by omega)] at e
      have en : zI (k : Int) + 1 = zI ((k + 1 : Nat) : Int) := by rw [z_1, zI_add]; rfl
      refine ⟨zI_in (by omega) (by omega), nm_r (e' := dg M (k + 1)) (by rw [en, zI_cl (by omega)]; rfl) (nm_r en (ih (k + 1) (by omega) (by omega)))⟩
theorem xw_digest {c : Cf} (post : Int32 → Prop) (kn : Int32) (T : Int64) (lo hi : Int32) (M : Nat → Int32) (hp : post (dg M 32)) : wpX_digest post (XS c kn T lo hi M) :=
  ⟨33, xm_g4 post kn T lo hi M hp 33 0 (by omega) (by omega)⟩
end
section
/-! Y: cell, reaches, work, touch, u, v, before -/
theorem y_n0 {c : Cf} (h : OK c) : ¬ zI (kN c : Int) = 0 := by
  have := OK_N h
  rw [z_0, zI_eq (by omega) (by omega)]
  omega
theorem yw_cell {c : Cf} (h : OK c) {k e : Nat} (hk : k < 6) (he : e < kN c * kN c) (post : Int32 → Prop) (M near : Nat → Int32)
    (hp : post (zI (ce c k e))) : wpY_cell post (YS c M near) (zI k) (zI e) := by
  have hN := OK_N h
  have hK := eo_K hN
  have n0 := y_n0 h
  have ik : vp_in (zI (k : Int)) 6 := zI_in hk (by omega)
  refine ⟨ik, n0, ik, n0, ik, ?_⟩
  rw [zI_cl (by omega), jA_e, jB_e, jC_e, zI_dn (by omega) (by omega), zI_rn, zI_mul, zI_mul, zI_add, zI_add]
  exact hp
/-- statement w's d in iteration e is used by statement t in iteration f -/
def yq (c : Cf) (e f w t : Nat) : Prop := ce c (kD c t) f = ce c (kD c w) e ∨ ce c (kL c t) f = ce c (kD c w) e ∨ ce c (kG c t) f = ce c (kD c w) e
def yr (c : Cf) (e f a : Nat) : Prop := ∃ b, a ≤ b ∧ b < km c * km c ∧ yq c e f (b / km c) (b % km c)
theorem yr_s {c : Cf} {e f a : Nat} (h : a < km c * km c) : yr c e f a ↔ (yq c e f (a / km c) (a % km c) ∨ yr c e f (a + 1)) := by
  constructor
  · rintro ⟨b, h1, h2, h3⟩
    rcases Nat.lt_or_eq_of_le h1 with z | z
    · exact Or.inr ⟨b, by omega, h2, h3⟩
    · subst z; exact Or.inl h3
  · rintro (z | ⟨b, h1, h2, h3⟩)
    · exact ⟨a, Nat.le_refl _, h, z⟩
    · exact ⟨b, by omega, h2, h3⟩
theorem yr_x {c : Cf} {e f a : Nat} (h : km c * km c ≤ a) : ¬ yr c e f a := by
  rintro ⟨b, h1, h2, h3⟩
  omega
theorem yr_R {c : Cf} (h : OK c) {e f : Nat} : yr c e f 0 ↔ RC c e f := by
  have hm := (OK_n h).2.2
  constructor
  · rintro ⟨b, _, h2, h3⟩
    have m1 : 1 ≤ km c := by
      rcases Nat.eq_zero_or_pos (km c) with z | z
      · rw [z] at h2; omega
      · exact z
    have r := eo_r ⟨m1, by omega⟩ h2
    exact ⟨_, _, r.1, r.2.1, h3⟩
  · rintro ⟨w, t, hw, ht, q⟩
    obtain ⟨b, b1, b2, b3⟩ := eo_mk (N := km c) ⟨by omega, by omega⟩ (i := (w : Int)) (j := (t : Int)) ⟨by omega, by omega⟩ ⟨by omega, by omega⟩
    have b2' : b / km c = w := by omega
    have b3' : b % km c = t := by omega
    exact ⟨b, Nat.zero_le _, b1, by rw [b2', b3']; exact q⟩
theorem ym_5 {c : Cf} (h : OK c) {e f : Nat} (he : e < kN c * kN c) (hf : f < kN c * kN c) (post : Int32 → Prop) (M near : Nat → Int32) :
    ∀ (n a : Nat) (p : Prop), a ≤ km c * km c → km c * km c - a < n → post (zB (p ∨ yr c e f a)) → wY_reaches_5 post (zI e) (zI f) (zI (kN c)) (zI (km c)) (zI (kP c)) (zI (kQ c)) (zI (kR c)) (zI (kS c)) M (jA c) (jB c) (jC c) (jO c) (jD c) (jL c) (jY c) near n (zB p) (zI a) := by
  have hm3 := (OK_n h).2.2
  have hmm : km c * km c ≤ 9 := Nat.mul_le_mul hm3 hm3
  intro n
  induction n with
  | zero => intro a p _ h; omega
  | succ n ih =>
    intro a p ha hm hp
    have hJ : a < km c * km c → ∀ q : Prop, ((q ∨ yr c e f (a + 1)) ↔ (p ∨ yr c e f a)) → wY_reaches_5 post (zI e) (zI f) (zI (kN c)) (zI (km c)) (zI (kP c)) (zI (kQ c)) (zI (kR c)) (zI (kS c)) M (jA c) (jB c) (jC c) (jO c) (jD c) (jL c) (jY c) near n (zB q) (zI ((a + 1 : Nat) : Int)) := fun hlt q iq =>
      ih (a + 1) q (by omega) (by omega) (by rw [zB_c iq]; exact hp)
    have h1 : a < km c * km c → (p ∨ yq c e f (a / km c) (a % km c)) → wY_reaches_5 post (zI e) (zI f) (zI (kN c)) (zI (km c)) (zI (kP c)) (zI (kQ c)) (zI (kR c)) (zI (kS c)) M (jA c) (jB c) (jC c) (jO c) (jD c) (jL c) (jY c) near n (zI 1) (zI ((a + 1 : Nat) : Int)) := fun hlt z => by
      have := hJ hlt True ⟨fun _ => by rw [yr_s hlt, ← or_assoc]; exact Or.inl z, fun _ => Or.inl trivial⟩
      rw [zB_t trivial] at this; exact this
    have h0 : a < km c * km c → ¬ p → ¬ yq c e f (a / km c) (a % km c) → wY_reaches_5 post (zI e) (zI f) (zI (kN c)) (zI (km c)) (zI (kP c)) (zI (kQ c)) (zI (kR c)) (zI (kS c)) M (jA c) (jB c) (jC c) (jO c) (jD c) (jL c) (jY c) near n (zI 0) (zI ((a + 1 : Nat) : Int)) := fun hlt z1 z2 => by
      have := hJ hlt False ⟨fun z => by rw [yr_s hlt]; exact Or.inr (Or.inr (z.resolve_left id)), fun z => by rw [yr_s hlt] at z; exact Or.inr ((z.resolve_left z1).resolve_left z2)⟩
      rw [zB_f id] at this; exact this
    clear hJ ih
    refine br_c (fun q => ?_) (fun q => ?_)
    · rw [zI_mul, zI_le (by omega) (by omega)] at q
      rw [zB_c (show (p ∨ yr c e f a) ↔ p from ⟨fun z => z.resolve_right (yr_x (by omega)), Or.inl⟩)] at hp
      exact ⟨zB_n p, hp⟩
    · rw [zI_mul, zI_le (by omega) (by omega)] at q
      have hlt : a < km c * km c := by omega
      have m1 : 1 ≤ km c := by
        rcases Nat.eq_zero_or_pos (km c) with z | z
        · rw [z] at hlt; omega
        · exact z
      have r := eo_r ⟨m1, by omega⟩ hlt
      have m0 : ¬ zI (km c : Int) = 0 := by rw [z_0, zI_eq (by omega) (by omega)]; omega
      have en : zI (a : Int) + 1 = zI ((a + 1 : Nat) : Int) := by rw [z_1, zI_add]; rfl
      have iw : vp_in (zI ((a / km c : Nat) : Int)) 3 := zI_in (by omega) (by omega)
      have it : vp_in (zI ((a % km c : Nat) : Int)) 3 := zI_in (by omega) (by omega)
      have s1 := OK_s h (a / km c)
      have s2 := OK_s h (a % km c)
      refine ⟨m0, nm_r (zI_dn (by omega) (by omega)) ⟨m0, nm_r (e' := zI ((a % km c : Nat) : Int)) (by rw [zI_dn (by omega) (by omega), zI_rn]) ⟨iw, ?_⟩⟩⟩
      rw [zI_cl (by omega), zI_cl (by omega), jD_e, jD_e, jL_e, jY_e, jO_e, z_0, z_1, z_2]
      rw [z_1] at en
      have a1 := fun k => (OK_a h k).2.2.2
      have ee := eo_r (OK_N h) he
      have ef := eo_r (OK_N h) hf
      have bc : ∀ k, (0 ≤ ce c k e ∧ ce c k e ≤ 31) ∧ (0 ≤ ce c k f ∧ ce c k f ≤ 31) := fun k => ⟨a1 k _ _ (by omega) (by omega) (by omega) (by omega), a1 k _ _ (by omega) (by omega) (by omega) (by omega)⟩
      have bw := (bc (kD c (a / km c))).1
      have bt1 := (bc (kD c (a % km c))).2
      have bt2 := (bc (kL c (a % km c))).2
      have bt3 := (bc (kY c (a % km c))).2
      refine yw_cell h s1.2.1 he _ M near ?_
      refine zB_br (fun np => ⟨it, ?_⟩) (fun yp => nm_r en (h1 hlt (Or.inl yp)))
      refine yw_cell h s2.2.1 hf _ M near ?_
      refine br_c (fun z => ?_) (fun z => ⟨it, ?_⟩)
      · rw [zI_eq (by omega) (by omega)] at z
        exact nm_r en (h1 hlt (Or.inr (Or.inl z)))
      refine yw_cell h s2.2.2.1 hf _ M near ?_
      rw [zI_eq (by omega) (by omega)] at z
      refine br_c (fun z2 => ?_) (fun z2 => ⟨it, br_c (fun z3 => ?_) (fun z3 => ⟨it, ?_⟩)⟩)
      · rw [zI_eq (by omega) (by omega)] at z2
        exact nm_r en (h1 hlt (Or.inr (Or.inr (Or.inl z2))))
      · rw [zI_eq (by omega) (by omega)] at z2 z3
        refine nm_r en (h0 hlt np ?_)
        rintro (y | y | y)
        · exact z y
        · exact z2 y
        · rw [s2.2.2.2.2.2.1 (by omega)] at y; exact z2 y
      · rw [zI_eq (by omega) (by omega)] at z2 z3
        have eg := s2.2.2.2.2.2.2 (by omega)
        refine yw_cell h s2.2.2.2.2.1 hf _ M near ?_
        refine br_c (fun z4 => ?_) (fun z4 => ?_)
        · rw [zI_eq (by omega) (by omega)] at z4
          exact nm_r en (h1 hlt (Or.inr (Or.inr (Or.inr (by rw [eg]; exact z4)))))
        · rw [zI_eq (by omega) (by omega)] at z4
          refine nm_r en (h0 hlt np ?_)
          rintro (y | y | y)
          · exact z y
          · exact z2 y
          · rw [eg] at y; exact z4 y
theorem yw_reaches {c : Cf} (h : OK c) {e f : Nat} (he : e < kN c * kN c) (hf : f < kN c * kN c) (post : Int32 → Prop) (M near : Nat → Int32)
    (hp : post (zB (RC c e f))) : wpY_reaches post (YS c M near) (zI e) (zI f) := by
  have hm3 := (OK_n h).2.2
  have hmm : km c * km c ≤ 9 := Nat.mul_le_mul hm3 hm3
  have := ym_5 h he hf post M near 10 0 False (by omega) (by omega) (by rw [zB_c (show (False ∨ yr c e f 0) ↔ RC c e f from by rw [false_or]; exact yr_R h)]; exact hp)
  rw [zB_f id] at this
  exact ⟨10, this⟩
def wk1 (c : Cf) (e f : Nat) (near near' : Nat → Int32) : Prop := (∀ g, g ≠ e → near' g = near g) ∧ ∀ b, b < 25 → (bt (near' e) b = true ↔ (bt (near e) b = true ∨ (f ≤ b ∧ b < kN c * kN c ∧ TC c e b)))
def wk2 (c : Cf) (e : Nat) (near near' : Nat → Int32) : Prop := (∀ g, g < e → near' g = near g) ∧ ∀ g, e ≤ g → g < kN c * kN c → ∀ b, b < 25 → (bt (near' g) b = true ↔ (b < kN c * kN c ∧ TC c g b))
theorem wk1_x {c : Cf} {e f : Nat} {near : Nat → Int32} (h : kN c * kN c ≤ f) : wk1 c e f near near := by
  refine ⟨fun _ _ => rfl, fun b hb => ⟨Or.inl, fun z => ?_⟩⟩
  rcases z with z | z
  · exact z
  · omega
theorem wk1_n {c : Cf} {e f : Nat} {near near' : Nat → Int32} (n : ¬ TC c e f) (h : wk1 c e (f + 1) near near') : wk1 c e f near near' := by
  refine ⟨h.1, fun b hb => ?_⟩
  rw [h.2 b hb]
  constructor
  · rintro (z | ⟨z1, z2, z3⟩)
    · exact Or.inl z
    · exact Or.inr ⟨by omega, z2, z3⟩
  · rintro (z | ⟨z1, z2, z3⟩)
    · exact Or.inl z
    · rcases Nat.lt_or_eq_of_le z1 with y | y
      · exact Or.inr ⟨by omega, z2, z3⟩
      · subst y; exact absurd z3 n
theorem wk1_y {c : Cf} {e f : Nat} {near near' : Nat → Int32} (hf : f < kN c * kN c) (hK : kN c * kN c ≤ 25) (y : TC c e f) (h : wk1 c e (f + 1) (upd near e (near e ||| (zI 1 <<< (zI (f : Int) &&& zI 31)))) near') : wk1 c e f near near' := by
  refine ⟨fun g hg => by rw [h.1 g hg, pk_un hg], fun b hb => ?_⟩
  rw [h.2 b hb, pk_us, tn_orZ _ (by omega) (by omega)]
  constructor
  · rintro ((z | z) | ⟨z1, z2, z3⟩)
    · exact Or.inl z
    · subst z; exact Or.inr ⟨Nat.le_refl _, hf, y⟩
    · exact Or.inr ⟨by omega, z2, z3⟩
  · rintro (z | ⟨z1, z2, z3⟩)
    · exact Or.inl (Or.inl z)
    · rcases Nat.lt_or_eq_of_le z1 with w | w
      · exact Or.inr ⟨by omega, z2, z3⟩
      · exact Or.inl (Or.inr w.symm)
theorem up_s (near : Nat → Int32) (e : Nat) : upd near e (near e) = near := by
  funext k
  unfold upd
  by_cases z : k = e
  · rw [if_pos z, z]
  · rw [if_neg z]
theorem ym_24 {c : Cf} (h : OK c) {e : Nat} (he : e < kN c * kN c) (post : SY → Prop) (J2 : Int32 → (Nat → Int32) → (Nat → Int32) → (Nat → Int32) → (Nat → Int32) → (Nat → Int32) → (Nat → Int32) → (Nat → Int32) → (Nat → Int32) → (Nat → Int32) → Prop) (M : Nat → Int32) :
    ∀ (n f : Nat) (near : Nat → Int32), f ≤ kN c * kN c → kN c * kN c - f < n → (∀ near', wk1 c e f near near' → J2 (zI (e + 1 : Nat)) M (jA c) (jB c) (jC c) (jO c) (jD c) (jL c) (jY c) near') → wY_work_24 post J2 (zI e) (zI (kN c)) (zI (km c)) (zI (kP c)) (zI (kQ c)) (zI (kR c)) (zI (kS c)) n (zI f) M (jA c) (jB c) (jC c) (jO c) (jD c) (jL c) (jY c) near := by
  have hK := eo_K (OK_N h)
  have ie : vp_in (zI (e : Int)) 25 := zI_in (by omega) (by omega)
  have ce' : (zI (e : Int)).toNatClampNeg = e := zI_cl (by omega)
  intro n
  induction n with
  | zero => intro f near _ h; omega
  | succ n ih =>
    intro f near hf hm hp
    have en : zI (f : Int) + 1 = zI ((f + 1 : Nat) : Int) := by rw [z_1, zI_add]; rfl
    refine br_c (fun q => ?_) (fun q => ?_)
    · rw [zI_mul, zI_le (by omega) (by omega)] at q
      exact nm_r (by rw [z_1, zI_add]; rfl) (hp near (wk1_x (by omega)))
    · rw [zI_mul, zI_le (by omega) (by omega)] at q
      have hlt : f < kN c * kN c := by omega
      have hY : TC c e f → wY_work_60 post J2 (wY_work_24 post J2 (zI e) (zI (kN c)) (zI (km c)) (zI (kP c)) (zI (kQ c)) (zI (kR c)) (zI (kS c)) n) (zI e) (zI f) (zI e) (zI (kN c)) (zI (km c)) (zI (kP c)) (zI (kQ c)) (zI (kR c)) (zI (kS c)) M (jA c) (jB c) (jC c) (jO c) (jD c) (jL c) (jY c) near := fun y => by
        refine ⟨ie, ie, ?_⟩
        rw [ce', z_1, z_31]
        rw [z_1] at en
        exact nm_e (nm_r en (ih (f + 1) _ (by omega) (by omega) (fun near' g => hp near' (wk1_y hlt hK.2 y g))))
      refine yw_reaches h he hlt _ M near ?_
      rw [z_0]
      refine zB_br (fun n1 => ?_) (fun y1 => hY (Or.inl y1))
      refine yw_reaches h hlt he _ M near ?_
      refine zB_br (fun n2 => ⟨ie, ie, ?_⟩) (fun y2 => hY (Or.inr y2))
      rw [ce', up_s]
      exact nm_e (nm_r en (ih (f + 1) near (by omega) (by omega) (fun near' g => hp near' (wk1_n (fun z => z.elim n1 n2) g))))
theorem ym_2 {c : Cf} (h : OK c) (post : SY → Prop) (M : Nat → Int32) :
    ∀ (n e : Nat) (near : Nat → Int32), e ≤ kN c * kN c → kN c * kN c - e < n → (∀ near', wk2 c e near near' → post (YS c M near')) → wY_work_2 post (zI (kN c)) (zI (km c)) (zI (kP c)) (zI (kQ c)) (zI (kR c)) (zI (kS c)) n (zI e) M (jA c) (jB c) (jC c) (jO c) (jD c) (jL c) (jY c) near := by
  have hK := eo_K (OK_N h)
  intro n
  induction n with
  | zero => intro f near _ h; omega
  | succ n ih =>
    intro e near he hm hp
    refine br_c (fun q => ?_) (fun q => ?_)
    · rw [zI_mul, zI_le (by omega) (by omega)] at q
      exact hp near ⟨fun _ _ => rfl, fun g a b => by omega⟩
    · rw [zI_mul, zI_le (by omega) (by omega)] at q
      have hlt : e < kN c * kN c := by omega
      have ce' : (zI (e : Int)).toNatClampNeg = e := zI_cl (by omega)
      refine ⟨zI_in (by omega) (by omega), nm_e ⟨30, ?_⟩⟩
      rw [ce']
      refine ym_24 h hlt post _ M 30 0 _ (by omega) (by omega) (fun n1 g1 => ih (e + 1) n1 (by omega) (by omega) (fun n2 g2 => hp n2 ⟨fun g hg => ?_, fun g hg hgK b hb => ?_⟩))
      · rw [g2.1 g (by omega), g1.1 g (by omega), pk_un (by omega)]
      · rcases Nat.lt_or_eq_of_le hg with z | z
        · exact g2.2 g (by omega) hgK b hb
        · subst z
          rw [g2.1 e (by omega), g1.2 b hb, pk_us, b_0]
          constructor
          · rintro (y | y)
            · exact absurd y (by decide)
            · exact y.2
          · intro y
            exact Or.inr ⟨Nat.zero_le _, y⟩
def NR (c : Cf) (near : Nat → Int32) : Prop := ∀ e f, e < kN c * kN c → f < kN c * kN c → (bt (near e) f = true ↔ TC c e f)
theorem yw_work {c : Cf} (h : OK c) (post : SY → Prop) (M near : Nat → Int32) (hp : ∀ near', NR c near' → post (YS c M near')) : wpY_work post (YS c M near) := by
  have hK := eo_K (OK_N h)
  refine ⟨30, ym_2 h post M 30 0 near (by omega) (by omega) (fun near' g => hp near' (fun e f he hf => ?_))⟩
  rw [g.2 e (Nat.zero_le _) he f (by omega)]
  exact ⟨fun z => z.2, fun z => ⟨hf, z⟩⟩
theorem yw_touch {c : Cf} (h : OK c) {e f : Nat} (he : e < kN c * kN c) (hf : f < kN c * kN c) (post : Int32 → Prop) (M near : Nat → Int32) (hr : NR c near)
    (hp : post (zB (e ≠ f ∧ TC c e f))) : wpY_touch post (YS c M near) (zI e) (zI f) := by
  have hK := eo_K (OK_N h)
  refine br_c (fun q => ?_) (fun q => ⟨zI_in (by omega) (by omega), ?_⟩)
  · rw [zI_eq (by omega) (by omega)] at q
    rw [zB_f (fun z => z.1 (by omega))] at hp
    exact hp
  · rw [zI_eq (by omega) (by omega)] at q
    rw [zI_cl (by omega)]
    refine br_c (fun z => ?_) (fun z => ?_)
    · rw [tn_get _ (by omega), hr e f he hf] at z
      rw [zB_t ⟨by omega, z⟩] at hp; exact hp
    · rw [tn_get _ (by omega), hr e f he hf] at z
      rw [zB_f (fun y => z y.2)] at hp; exact hp
theorem yw_u {c : Cf} (h : OK c) {e : Nat} (he : e < kN c * kN c) (post : Int32 → Prop) (M near : Nat → Int32)
    (hp : post (zI (kU c e))) : wpY_u post (YS c M near) (zI e) := by
  have hN := OK_N h
  have hK := eo_K hN
  have n0 := y_n0 h
  refine ⟨n0, n0, ?_⟩
  rw [zI_dn (by omega) (by omega), zI_rn, zI_mul, zI_mul, zI_add]
  exact hp
theorem yw_v {c : Cf} (h : OK c) {e : Nat} (he : e < kN c * kN c) (post : Int32 → Prop) (M near : Nat → Int32)
    (hp : post (zI (kV c e))) : wpY_v post (YS c M near) (zI e) := by
  have hN := OK_N h
  have hK := eo_K hN
  have n0 := y_n0 h
  refine ⟨n0, n0, ?_⟩
  rw [zI_dn (by omega) (by omega), zI_rn, zI_mul, zI_mul, zI_add]
  exact hp
theorem kV_b {c : Cf} (h : OK c) {e : Nat} (he : e < kN c * kN c) : -24 ≤ kV c e ∧ kV c e ≤ 24 := (kt_24 h (inB_e h he).1).2
theorem yw_before {c : Cf} (h : OK c) {e f : Nat} (he : e < kN c * kN c) (hf : f < kN c * kN c) (post : Int32 → Prop) (M near : Nat → Int32)
    (hp : post (zB (BF c e f))) : wpY_before post (YS c M near) (zI e) (zI f) := by
  have b1 := kU_b h he
  have b2 := kU_b h hf
  have b3 := kV_b h he
  have b4 := kV_b h hf
  unfold wpY_before
  refine yw_u h he _ M near ?_
  refine yw_u h hf _ M near ?_
  refine br_c (fun q => ?_) (fun q => ?_)
  · rw [zI_lt (by omega) (by omega)] at q
    rw [zB_t (p := BF c e f) (Or.inl q)] at hp; exact hp
  rw [zI_lt (by omega) (by omega)] at q
  refine yw_u h he _ M near ?_
  refine yw_u h hf _ M near ?_
  refine br_c (fun q2 => ?_) (fun q2 => ?_)
  · rw [zI_eq (by omega) (by omega)] at q2
    refine yw_v h he _ M near ?_
    refine yw_v h hf _ M near ?_
    refine br_c (fun q3 => ?_) (fun q3 => ?_)
    · rw [zI_le (by omega) (by omega)] at q3
      rw [zB_f (by unfold BF; omega)] at hp; exact hp
    · rw [zI_le (by omega) (by omega)] at q3
      rw [zB_t (by unfold BF; omega)] at hp; exact hp
  · rw [zI_eq (by omega) (by omega)] at q2
    rw [zB_f (by unfold BF; omega)] at hp; exact hp
end
section
/-! Y: legal, distance, distances, free -/
def al1 (F : Nat → Nat → Prop) (K e f : Nat) : Prop := ∀ g, f ≤ g → g < K → F e g
def al2 (F : Nat → Nat → Prop) (K e : Nat) : Prop := ∀ a b, e ≤ a → a < b → b < K → F a b
theorem al1_s {F : Nat → Nat → Prop} {K e f : Nat} (h : f < K) : al1 F K e f ↔ (F e f ∧ al1 F K e (f + 1)) := by
  constructor
  · intro g
    exact ⟨g f (Nat.le_refl _) h, fun x a b => g x (by omega) b⟩
  · rintro ⟨g1, g2⟩ x a b
    rcases Nat.lt_or_eq_of_le a with z | z
    · exact g2 x (by omega) b
    · subst z; exact g1
theorem al1_x {F : Nat → Nat → Prop} {K e f : Nat} (h : K ≤ f) : al1 F K e f := fun g a b => by omega
theorem al2_s {F : Nat → Nat → Prop} {K e : Nat} : al2 F K e ↔ (al1 F K e (e + 1) ∧ al2 F K (e + 1)) := by
  constructor
  · intro g
    exact ⟨fun x a b => g e x (Nat.le_refl _) (by omega) b, fun x y a b d => g x y (by omega) b d⟩
  · rintro ⟨g1, g2⟩ x y a b d
    rcases Nat.lt_or_eq_of_le a with z | z
    · exact g2 x y (by omega) b d
    · subst z; exact g1 y (by omega) d
theorem al2_x {F : Nat → Nat → Prop} {K e : Nat} (h : K ≤ e) : al2 F K e := fun x y a b d => by omega
/-- the flag of a loop that asks F of all pairs -/
theorem fl_s {F : Nat → Nat → Prop} {K e f : Nat} {p q : Prop} (h : f < K) (hq : q ↔ (p ∧ F e f)) : (q ∧ al1 F K e (f + 1)) ↔ (p ∧ al1 F K e f) := by
  rw [al1_s h, hq, and_assoc]
def yF (c : Cf) (e f : Nat) : Prop := TC c e f → BF c e f
theorem ym_l25 {c : Cf} (h : OK c) {e : Nat} (he : e < kN c * kN c) (post : Int32 → SY → Prop) (J8 : Int32 → Int32 → Prop) (M near : Nat → Int32) (hr : NR c near) :
    ∀ (n f : Nat) (p : Prop), e < f → f ≤ kN c * kN c → kN c * kN c - f < n → J8 (zB (p ∧ al1 (yF c) (kN c * kN c) e f)) (zI (e + 1 : Nat)) → wY_legal_25 post J8 (zI e) (zI (kN c)) (zI (km c)) (zI (kP c)) (zI (kQ c)) (zI (kR c)) (zI (kS c)) M (jA c) (jB c) (jC c) (jO c) (jD c) (jL c) (jY c) near n (zB p) (zI f) := by
  have hK := eo_K (OK_N h)
  intro n
  induction n with
  | zero => intro f p _ _ h; omega
  | succ n ih =>
    intro f p hef hf hm hp
    have en : zI (f : Int) + 1 = zI ((f + 1 : Nat) : Int) := by rw [z_1, zI_add]; rfl
    have h1 : f < kN c * kN c → p → yF c e f → wY_legal_25 post J8 (zI e) (zI (kN c)) (zI (km c)) (zI (kP c)) (zI (kQ c)) (zI (kR c)) (zI (kS c)) M (jA c) (jB c) (jC c) (jO c) (jD c) (jL c) (jY c) near n (zI 1) (zI ((f + 1 : Nat) : Int)) := fun hlt z1 z2 => by
      have := ih (f + 1) True (by omega) (by omega) (by omega) (by rw [zB_c (fl_s hlt (p := p) ⟨fun _ => ⟨z1, z2⟩, fun _ => trivial⟩)]; exact hp)
      rw [zB_t trivial] at this; exact this
    have h0 : f < kN c * kN c → ¬ (p ∧ yF c e f) → wY_legal_25 post J8 (zI e) (zI (kN c)) (zI (km c)) (zI (kP c)) (zI (kQ c)) (zI (kR c)) (zI (kS c)) M (jA c) (jB c) (jC c) (jO c) (jD c) (jL c) (jY c) near n (zI 0) (zI ((f + 1 : Nat) : Int)) := fun hlt z => by
      have := ih (f + 1) False (by omega) (by omega) (by omega) (by rw [zB_c (fl_s hlt (p := p) ⟨fun y => y.elim, fun y => absurd y z⟩)]; exact hp)
      rw [zB_f id] at this; exact this
    clear ih
    refine br_c (fun q => ?_) (fun q => ?_)
    · rw [zI_mul, zI_le (by omega) (by omega)] at q
      rw [zB_c (show (p ∧ al1 (yF c) (kN c * kN c) e f) ↔ p from ⟨fun z => z.1, fun z => ⟨z, al1_x (by omega)⟩⟩)] at hp
      exact nm_r (by rw [z_1, zI_add]; rfl) hp
    · rw [zI_mul, zI_le (by omega) (by omega)] at q
      have hlt : f < kN c * kN c := by omega
      rw [z_0, z_1]
      rw [z_1] at en
      refine zB_br (fun np => nm_r en (h0 hlt (fun z => np z.1))) (fun yp => ?_)
      refine yw_touch h he hlt _ M near hr ?_
      refine zB_br (fun nt => nm_r en (h1 hlt yp (fun z => absurd ⟨by omega, z⟩ nt))) (fun yt => ?_)
      refine yw_before h he hlt _ M near ?_
      exact zB_br (fun nb => nm_r en (h0 hlt (fun z => nb (z.2 yt.2)))) (fun yb => nm_r en (h1 hlt yp (fun _ => yb)))
theorem ym_l8 {c : Cf} (h : OK c) (post : Int32 → SY → Prop) (M near : Nat → Int32) (hr : NR c near) :
    ∀ (n e : Nat) (p : Prop), e ≤ kN c * kN c → kN c * kN c - e < n → post (zB (p ∧ al2 (yF c) (kN c * kN c) e)) (YS c M near) → wY_legal_8 post (zI (kN c)) (zI (km c)) (zI (kP c)) (zI (kQ c)) (zI (kR c)) (zI (kS c)) M (jA c) (jB c) (jC c) (jO c) (jD c) (jL c) (jY c) near n (zB p) (zI e) := by
  have hK := eo_K (OK_N h)
  intro n
  induction n with
  | zero => intro e p _ h; omega
  | succ n ih =>
    intro e p he hm hp
    refine br_c (fun q => ?_) (fun q => ?_)
    · rw [zI_mul, zI_le (by omega) (by omega)] at q
      rw [zB_c (show (p ∧ al2 (yF c) (kN c * kN c) e) ↔ p from ⟨fun z => z.1, fun z => ⟨z, al2_x (by omega)⟩⟩)] at hp
      exact ⟨zB_n p, hp⟩
    · rw [zI_mul, zI_le (by omega) (by omega)] at q
      refine nm_r (e' := zI ((e + 1 : Nat) : Int)) (by rw [z_1, zI_add]; rfl) ⟨30, ym_l25 h (by omega) post _ M near hr 30 (e + 1) p (by omega) (by omega) (by omega) (ih (e + 1) _ (by omega) (by omega) ?_)⟩
      rw [zB_c (show ((p ∧ al1 (yF c) (kN c * kN c) e (e + 1)) ∧ al2 (yF c) (kN c * kN c) (e + 1)) ↔ (p ∧ al2 (yF c) (kN c * kN c) e) from by rw [al2_s (e := e), and_assoc])]
      exact hp
theorem yw_legal {c : Cf} (h : OK c) (post : Int32 → SY → Prop) (M near : Nat → Int32) (hp : ∀ near', post (zB (YL c)) (YS c M near')) : wpY_legal post (YS c M near) := by
  have hK := eo_K (OK_N h)
  unfold wpY_legal
  refine yw_work h _ M near (fun near' hr => ⟨30, ?_⟩)
  have := ym_l8 h post M near' hr 30 0 True (by omega) (by omega) (by
    rw [zB_c (show (True ∧ al2 (yF c) (kN c * kN c) 0) ↔ YL c from ⟨fun z e f a b d => z.2 e f (Nat.zero_le _) a b d, fun z => ⟨trivial, fun e f _ a b d => z e f a b d⟩⟩)]
    exact hp near')
  rw [zB_t trivial] at this
  exact this
def yG (c : Cf) (x y : Int) (e f : Nat) : Prop := ¬ (TC c e f ∧ dist c e f x y)
/-- the flag of a loop that asks for some pair -/
theorem fe_s {F : Nat → Nat → Prop} {K e f : Nat} {p q : Prop} (h : f < K) (hq : q ↔ (p ∨ ¬ F e f)) : (q ∨ ¬ al1 F K e (f + 1)) ↔ (p ∨ ¬ al1 F K e f) := by
  rw [al1_s h, hq, or_assoc, Classical.not_and_iff_not_or_not]
theorem ym_d29 {c : Cf} (h : OK c) {e : Nat} (he : e < kN c * kN c) {x y : Int} (hx : -2147483648 ≤ x ∧ x ≤ 2147483647) (hy : -2147483648 ≤ y ∧ y ≤ 2147483647) (post : Int32 → SY → Prop) (J9 : Int32 → Int32 → Prop) (M near : Nat → Int32) (hr : NR c near) :
    ∀ (n f : Nat) (p : Prop), e < f → f ≤ kN c * kN c → kN c * kN c - f < n → J9 (zB (p ∨ ¬ al1 (yG c x y) (kN c * kN c) e f)) (zI (e + 1 : Nat)) → wY_distance_29 post J9 (zI x) (zI y) (zI e) (zI (kN c)) (zI (km c)) (zI (kP c)) (zI (kQ c)) (zI (kR c)) (zI (kS c)) M (jA c) (jB c) (jC c) (jO c) (jD c) (jL c) (jY c) near n (zB p) (zI f) := by
  have hN := OK_N h
  have hK := eo_K hN
  have n0 := y_n0 h
  intro n
  induction n with
  | zero => intro f p _ _ h; omega
  | succ n ih =>
    intro f p hef hf hm hp
    have en : zI (f : Int) + 1 = zI ((f + 1 : Nat) : Int) := by rw [z_1, zI_add]; rfl
    have h1 : f < kN c * kN c → (p ∨ (TC c e f ∧ dist c e f x y)) → wY_distance_29 post J9 (zI x) (zI y) (zI e) (zI (kN c)) (zI (km c)) (zI (kP c)) (zI (kQ c)) (zI (kR c)) (zI (kS c)) M (jA c) (jB c) (jC c) (jO c) (jD c) (jL c) (jY c) near n (zI 1) (zI ((f + 1 : Nat) : Int)) := fun hlt z => by
      have := ih (f + 1) True (by omega) (by omega) (by omega) (by rw [zB_c (fe_s hlt (p := p) ⟨fun _ => z.elim Or.inl (fun y => Or.inr (fun w => w y)), fun _ => trivial⟩)]; exact hp)
      rw [zB_t trivial] at this; exact this
    have h0 : f < kN c * kN c → ¬ p → ¬ (TC c e f ∧ dist c e f x y) → wY_distance_29 post J9 (zI x) (zI y) (zI e) (zI (kN c)) (zI (km c)) (zI (kP c)) (zI (kQ c)) (zI (kR c)) (zI (kS c)) M (jA c) (jB c) (jC c) (jO c) (jD c) (jL c) (jY c) near n (zI 0) (zI ((f + 1 : Nat) : Int)) := fun hlt z1 z2 => by
      have := ih (f + 1) False (by omega) (by omega) (by omega) (by rw [zB_c (fe_s hlt (p := p) ⟨fun y => y.elim, fun y => (y.elim z1 (fun w => w z2)).elim⟩)]; exact hp)
      rw [zB_f id] at this; exact this
    clear ih
    refine br_c (fun q => ?_) (fun q => ?_)
    · rw [zI_mul, zI_le (by omega) (by omega)] at q
      rw [zB_c (show (p ∨ ¬ al1 (yG c x y) (kN c * kN c) e f) ↔ p from ⟨fun z => z.resolve_right (fun w => w (al1_x (by omega))), Or.inl⟩)] at hp
      exact nm_r (by rw [z_1, zI_add]; rfl) hp
    · rw [zI_mul, zI_le (by omega) (by omega)] at q
      have hlt : f < kN c * kN c := by omega
      have r1 := eo_r hN he
      have r2 := eo_r hN hlt
      rw [zI_dn (by omega) (by omega), zI_dn (by omega) (by omega), zI_rn, zI_rn, zI_sub, zI_sub]
      rw [z_1] at en
      refine br_c (fun np => ?_) (fun yp => ?_)
      · rw [z_0, zB_0] at np
        refine yw_touch h he hlt _ M near hr ?_
        rw [z_0, z_1]
        refine zB_br (fun nt => nm_r en (h0 hlt np (fun z => nt ⟨by omega, z.1⟩))) (fun yt => ⟨n0, n0, br_c (fun q1 => ⟨n0, n0, br_c (fun q2 => ?_) (fun q2 => ?_)⟩) (fun q1 => ?_)⟩)
        · rw [zI_eq (by omega) (by omega)] at q1 q2
          exact nm_r en (h1 hlt (Or.inr ⟨yt.2, q1, q2⟩))
        · rw [zI_eq (by omega) (by omega)] at q1 q2
          exact nm_r en (h0 hlt np (fun z => q2 z.2.2))
        · rw [zI_eq (by omega) (by omega)] at q1
          exact nm_r en (h0 hlt np (fun z => q1 z.2.1))
      · rw [z_0, zB_0] at yp
        rw [z_1]
        exact nm_r en (h1 hlt (Or.inl (Classical.not_not.mp yp)))
theorem ym_d9 {c : Cf} (h : OK c) {x y : Int} (hx : -2147483648 ≤ x ∧ x ≤ 2147483647) (hy : -2147483648 ≤ y ∧ y ≤ 2147483647) (post : Int32 → SY → Prop) (M near : Nat → Int32) (hr : NR c near) :
    ∀ (n e : Nat) (p : Prop), e ≤ kN c * kN c → kN c * kN c - e < n → post (zB (p ∨ ¬ al2 (yG c x y) (kN c * kN c) e)) (YS c M near) → wY_distance_9 post (zI x) (zI y) (zI (kN c)) (zI (km c)) (zI (kP c)) (zI (kQ c)) (zI (kR c)) (zI (kS c)) M (jA c) (jB c) (jC c) (jO c) (jD c) (jL c) (jY c) near n (zB p) (zI e) := by
  have hK := eo_K (OK_N h)
  intro n
  induction n with
  | zero => intro e p _ h; omega
  | succ n ih =>
    intro e p he hm hp
    refine br_c (fun q => ?_) (fun q => ?_)
    · rw [zI_mul, zI_le (by omega) (by omega)] at q
      rw [zB_c (show (p ∨ ¬ al2 (yG c x y) (kN c * kN c) e) ↔ p from ⟨fun z => z.resolve_right (fun w => w (al2_x (by omega))), Or.inl⟩)] at hp
      exact ⟨zB_n p, hp⟩
    · rw [zI_mul, zI_le (by omega) (by omega)] at q
      refine nm_r (e' := zI ((e + 1 : Nat) : Int)) (by rw [z_1, zI_add]; rfl) ⟨30, ym_d29 h (by omega) hx hy post _ M near hr 30 (e + 1) p (by omega) (by omega) (by omega) (ih (e + 1) _ (by omega) (by omega) ?_)⟩
      rw [zB_c (show ((p ∨ ¬ al1 (yG c x y) (kN c * kN c) e (e + 1)) ∨ ¬ al2 (yG c x y) (kN c * kN c) (e + 1)) ↔ (p ∨ ¬ al2 (yG c x y) (kN c * kN c) e) from by rw [al2_s (e := e), or_assoc, Classical.not_and_iff_not_or_not])]
      exact hp
theorem yw_distance {c : Cf} (h : OK c) {x y : Int} (hx : -2147483648 ≤ x ∧ x ≤ 2147483647) (hy : -2147483648 ≤ y ∧ y ≤ 2147483647) (post : Int32 → SY → Prop) (M near : Nat → Int32) (hp : ∀ near', post (zB (YD c x y)) (YS c M near')) : wpY_distance post (YS c M near) (zI x) (zI y) := by
  have hK := eo_K (OK_N h)
  unfold wpY_distance
  refine yw_work h _ M near (fun near' hr => ⟨30, ?_⟩)
  have := ym_d9 h hx hy post M near' hr 30 0 False (by omega) (by omega) (by
    rw [zB_c (show (False ∨ ¬ al2 (yG c x y) (kN c * kN c) 0) ↔ YD c x y from ⟨fun z => ?_, fun z => ?_⟩)]
    · exact hp near'
    · apply Classical.byContradiction
      intro w
      exact (z.resolve_left id) (fun a b _ p1 p2 p3 => w ⟨a, b, p1, p2, p3.1, p3.2⟩)
    · obtain ⟨a, b, p1, p2, p3, p4⟩ := z
      exact Or.inr (fun w => w a b (Nat.zero_le _) p1 p2 ⟨p3, p4⟩))
  rw [zB_f id] at this
  exact this
theorem ym_d4 {c : Cf} (h : OK c) (post : Int32 → SY → Prop) (M : Nat → Int32)
    (hp : ∀ near, post (zI (cn (fun b => YD c ((b / 9 : Nat) : Int) (((b % 9 : Nat) : Int) - 4)) 45 : Nat)) (YS c M near)) :
    ∀ (n k : Nat) (near : Nat → Int32), k ≤ 45 → 45 - k < n → wY_distances_4 post n (zI (cn (fun b => YD c ((b / 9 : Nat) : Int) (((b % 9 : Nat) : Int) - 4)) k : Nat)) (zI k) (zI (kN c)) (zI (km c)) (zI (kP c)) (zI (kQ c)) (zI (kR c)) (zI (kS c)) M (jA c) (jB c) (jC c) (jO c) (jD c) (jL c) (jY c) near := by
  have n9 : ¬ (9 : Int32) = 0 := by decide
  intro n
  induction n with
  | zero => intro k near _ h; omega
  | succ n ih =>
    intro k near hk hm
    refine br_c (fun e => ?_) (fun e => ⟨n9, n9, ?_⟩)
    · rw [z_45, zI_le (by omega) (by omega)] at e
      have : k = 45 := by omega
      subst this; exact hp near
    · rw [z_45, zI_le (by omega) (by omega)] at e
      have e1 : zI (k : Int) / 9 = zI ((k / 9 : Nat) : Int) := by
        have := zI_dn (a := k) (d := 9) (by omega) (by omega)
        exact this
      have e2 : zI (k : Int) - zI (k : Int) / 9 * 9 - 4 = zI (((k % 9 : Nat) : Int) - 4) := by
        have := zI_rn (a := k) (d := 9)
        rw [e1, z_4, ← zI_sub, ← this]; rfl
      have en : zI (k : Int) + 1 = zI ((k + 1 : Nat) : Int) := by rw [z_1, zI_add]; rfl
      rw [e1] at e2
      rw [e1, e2]
      refine yw_distance h (by omega) (by omega) _ M near (fun near' => ?_)
      have i := ih (k + 1) near' (by omega) (by omega)
      rw [cn_s _ k] at i
      rw [z_0, z_1]
      rw [z_1] at en
      refine zB_br (fun z => ?_) (fun z => ?_)
      · rw [zN_f z] at i
        exact nm_r en i
      · rw [zN_t z] at i
        exact nm_r (by rw [zI_add]; rfl) (nm_r en i)
theorem yw_distances {c : Cf} (h : OK c) (post : Int32 → SY → Prop) (M near : Nat → Int32)
    (hp : ∀ near, post (zI (cn (fun b => YD c ((b / 9 : Nat) : Int) (((b % 9 : Nat) : Int) - 4)) 45 : Nat)) (YS c M near)) : wpY_distances post (YS c M near) :=
  ⟨46, ym_d4 h post M hp 46 0 near (by omega) (by omega)⟩
def yH (c : Cf) (s : Prop) (e f : Nat) : Prop := ¬ (TC c e f ∧ (kU c e = kU c f ↔ s))
theorem ym_f26 {c : Cf} (h : OK c) (s : Prop) {e : Nat} (he : e < kN c * kN c) (post : Int32 → SY → Prop) (J8 : Int32 → Int32 → Prop) (M near : Nat → Int32) (hr : NR c near) :
    ∀ (n f : Nat) (p : Prop), e < f → f ≤ kN c * kN c → kN c * kN c - f < n → J8 (zB (p ∧ al1 (yH c s) (kN c * kN c) e f)) (zI (e + 1 : Nat)) → wY_free_26 post J8 (zB s) (zI e) (zI (kN c)) (zI (km c)) (zI (kP c)) (zI (kQ c)) (zI (kR c)) (zI (kS c)) M (jA c) (jB c) (jC c) (jO c) (jD c) (jL c) (jY c) near n (zB p) (zI f) := by
  have hK := eo_K (OK_N h)
  intro n
  induction n with
  | zero => intro f p _ _ h; omega
  | succ n ih =>
    intro f p hef hf hm hp
    have en : zI (f : Int) + 1 = zI ((f + 1 : Nat) : Int) := by rw [z_1, zI_add]; rfl
    have h1 : f < kN c * kN c → p → yH c s e f → wY_free_26 post J8 (zB s) (zI e) (zI (kN c)) (zI (km c)) (zI (kP c)) (zI (kQ c)) (zI (kR c)) (zI (kS c)) M (jA c) (jB c) (jC c) (jO c) (jD c) (jL c) (jY c) near n (zI 1) (zI ((f + 1 : Nat) : Int)) := fun hlt z1 z2 => by
      have := ih (f + 1) True (by omega) (by omega) (by omega) (by rw [zB_c (fl_s hlt (p := p) ⟨fun _ => ⟨z1, z2⟩, fun _ => trivial⟩)]; exact hp)
      rw [zB_t trivial] at this; exact this
    have h0 : f < kN c * kN c → ¬ (p ∧ yH c s e f) → wY_free_26 post J8 (zB s) (zI e) (zI (kN c)) (zI (km c)) (zI (kP c)) (zI (kQ c)) (zI (kR c)) (zI (kS c)) M (jA c) (jB c) (jC c) (jO c) (jD c) (jL c) (jY c) near n (zI 0) (zI ((f + 1 : Nat) : Int)) := fun hlt z => by
      have := ih (f + 1) False (by omega) (by omega) (by omega) (by rw [zB_c (fl_s hlt (p := p) ⟨fun y => y.elim, fun y => absurd y z⟩)]; exact hp)
      rw [zB_f id] at this; exact this
    clear ih
    refine br_c (fun q => ?_) (fun q => ?_)
    · rw [zI_mul, zI_le (by omega) (by omega)] at q
      rw [zB_c (show (p ∧ al1 (yH c s) (kN c * kN c) e f) ↔ p from ⟨fun z => z.1, fun z => ⟨z, al1_x (by omega)⟩⟩)] at hp
      exact nm_r (by rw [z_1, zI_add]; rfl) hp
    · rw [zI_mul, zI_le (by omega) (by omega)] at q
      have hlt : f < kN c * kN c := by omega
      have b1 := kU_b h he
      have b2 := kU_b h hlt
      rw [z_0, z_1]
      rw [z_1] at en
      refine zB_br (fun np => nm_r en (h0 hlt (fun z => np z.1))) (fun yp => ?_)
      refine yw_touch h he hlt _ M near hr ?_
      refine zB_br (fun nt => nm_r en (h1 hlt yp (fun z => nt ⟨by omega, z.1⟩))) (fun yt => ?_)
      refine yw_u h he _ M near ?_
      refine yw_u h hlt _ M near ?_
      refine br_c (fun u1 => ?_) (fun u1 => ?_)
      · rw [zI_eq (by omega) (by omega)] at u1
        refine br_c (fun u2 => ?_) (fun u2 => ?_)
        · rw [z_0]
          exact nm_r (by rw [z_1]; exact en) (h0 hlt (fun z => z.2 ⟨yt.2, fun _ => zB_1.1 u2.symm, fun _ => u1⟩))
        · rw [z_1]
          exact nm_r en (h1 hlt yp (fun z => u2 (zB_1.2 (z.2.1 u1)).symm))
      · rw [zI_eq (by omega) (by omega)] at u1
        refine br_c (fun u2 => ?_) (fun u2 => ?_)
        · have ns : ¬ s := fun z => by rw [zB_t z] at u2; exact z_10 u2.symm
          exact nm_r (by rw [z_1]; exact en) (h0 hlt (fun z => z.2 ⟨yt.2, fun w => absurd w u1, fun w => absurd w ns⟩))
        · have ys : s := Classical.byContradiction (fun z => by rw [zB_f z] at u2; exact u2 rfl)
          exact nm_r (by rw [z_1]; exact en) (h1 hlt yp (fun z => u1 (z.2.2 ys)))
theorem ym_f8 {c : Cf} (h : OK c) (s : Prop) (post : Int32 → SY → Prop) (M near : Nat → Int32) (hr : NR c near) :
    ∀ (n e : Nat) (p : Prop), e ≤ kN c * kN c → kN c * kN c - e < n → post (zB (p ∧ al2 (yH c s) (kN c * kN c) e)) (YS c M near) → wY_free_8 post (zB s) (zI (kN c)) (zI (km c)) (zI (kP c)) (zI (kQ c)) (zI (kR c)) (zI (kS c)) M (jA c) (jB c) (jC c) (jO c) (jD c) (jL c) (jY c) near n (zB p) (zI e) := by
  have hK := eo_K (OK_N h)
  intro n
  induction n with
  | zero => intro e p _ h; omega
  | succ n ih =>
    intro e p he hm hp
    refine br_c (fun q => ?_) (fun q => ?_)
    · rw [zI_mul, zI_le (by omega) (by omega)] at q
      rw [zB_c (show (p ∧ al2 (yH c s) (kN c * kN c) e) ↔ p from ⟨fun z => z.1, fun z => ⟨z, al2_x (by omega)⟩⟩)] at hp
      exact ⟨zB_n p, hp⟩
    · rw [zI_mul, zI_le (by omega) (by omega)] at q
      refine nm_r (e' := zI ((e + 1 : Nat) : Int)) (by rw [z_1, zI_add]; rfl) ⟨30, ym_f26 h s (by omega) post _ M near hr 30 (e + 1) p (by omega) (by omega) (by omega) (ih (e + 1) _ (by omega) (by omega) ?_)⟩
      rw [zB_c (show ((p ∧ al1 (yH c s) (kN c * kN c) e (e + 1)) ∧ al2 (yH c s) (kN c * kN c) (e + 1)) ↔ (p ∧ al2 (yH c s) (kN c * kN c) e) from by rw [al2_s (e := e), and_assoc])]
      exact hp
theorem yw_free {c : Cf} (h : OK c) (s : Prop) {p0 : Int32} (e0 : p0 = zB s) (post : Int32 → SY → Prop) (M near : Nat → Int32) (hp : ∀ near', post (zB (FR c s)) (YS c M near')) : wpY_free post (YS c M near) p0 := by
  subst e0
  have hK := eo_K (OK_N h)
  unfold wpY_free
  refine yw_work h _ M near (fun near' hr => ⟨30, ?_⟩)
  have := ym_f8 h s post M near' hr 30 0 True (by omega) (by omega) (by
    rw [zB_c (show (True ∧ al2 (yH c s) (kN c * kN c) 0) ↔ FR c s from ⟨fun z e f a b d => z.2 e f (Nat.zero_le _) a b d, fun z => ⟨trivial, fun e f _ a b d => z e f a b d⟩⟩)]
    exact hp near')
  rw [zB_t trivial] at this
  exact this
theorem yw_inner {c : Cf} (h : OK c) (post : Int32 → SY → Prop) (M near : Nat → Int32) (hp : ∀ near', post (zB (FR c True)) (YS c M near')) : wpY_innerFree post (YS c M near) := by
  unfold wpY_innerFree
  exact yw_free h True (by rw [zB_t True.intro]; exact z_1) _ M near (fun near' => ⟨zB_n _, hp near'⟩)
theorem yw_outer {c : Cf} (h : OK c) (post : Int32 → SY → Prop) (M near : Nat → Int32) (hp : ∀ near', post (zB (FR c False)) (YS c M near')) : wpY_outerFree post (YS c M near) := by
  unfold wpY_outerFree
  exact yw_free h False (by rw [zB_f id]; exact z_0) _ M near (fun near' => ⟨zB_n _, hp near'⟩)
end
section
/-! Y: carryOut, run, iteration, rows, digest -/
theorem st1_y {c : Cf} (h : OK c) (t : Nat) (i j : Int) (M : Nat → Int32) : st1 c t i j M = upd M (kl c (kD c t) i j).toNat (sv c t (M (kl c (kL c t) i j).toNat) (M (kl c (kY c t) i j).toNat)) := by
  have s := OK_s h t
  unfold st1
  by_cases z : kO c t = 2
  · unfold sv
    rw [if_neg (by omega), if_neg (by omega), if_neg (by omega), if_neg (by omega)]
  · rw [s.2.2.2.2.2.2 z]
theorem ym_c2 {c : Cf} (h : OK c) {e : Nat} (he : e < kN c * kN c) (post : SY → Prop) (near : Nat → Int32) :
    ∀ (n t : Nat) (M : Nat → Int32), t ≤ km c → km c - t < n → post (YS c (stR c (e / kN c : Nat) (e % kN c : Nat) (km c - t) t M) near) → wY_carryOut_2 post (zI e) (zI (kN c)) (zI (km c)) (zI (kP c)) (zI (kQ c)) (zI (kR c)) (zI (kS c)) n (zI t) M (jA c) (jB c) (jC c) (jO c) (jD c) (jL c) (jY c) near := by
  have hn := OK_n h
  have hN := OK_N h
  have r := eo_r hN he
  intro n
  induction n with
  | zero => intro t M _ h; omega
  | succ n ih =>
    intro t M ht hm hp
    have et : (zI (t : Int)).toNatClampNeg = t := zI_cl (by omega)
    have s := OK_s h t
    have aL : 0 ≤ ce c (kL c t) e ∧ ce c (kL c t) e ≤ 31 := (OK_a h (kL c t)).2.2.2 _ _ (by omega) (by omega) (by omega) (by omega)
    have aY : 0 ≤ ce c (kY c t) e ∧ ce c (kY c t) e ≤ 31 := (OK_a h (kY c t)).2.2.2 _ _ (by omega) (by omega) (by omega) (by omega)
    have aD : 0 ≤ ce c (kD c t) e ∧ ce c (kD c t) e ≤ 31 := (OK_a h (kD c t)).2.2.2 _ _ (by omega) (by omega) (by omega) (by omega)
    refine br_c (fun q => ?_) (fun q => ?_)
    · rw [zI_le (by omega) (by omega)] at q
      rw [stR_x (by omega)] at hp; exact hp
    · rw [zI_le (by omega) (by omega)] at q
      have it : vp_in (zI (t : Int)) 3 := zI_in (by omega) (by omega)
      rw [stR_s (by omega), st1_y h] at hp
      have en : zI (t : Int) + 1 = zI ((t + 1 : Nat) : Int) := by rw [z_1, zI_add]; rfl
      have hJ := fun M' => ih (t + 1) M' (by omega) (by omega)
      refine ⟨it, ?_⟩
      rw [et, jL_e, jY_e, jD_e, jO_e]
      refine yw_cell h s.2.2.1 he _ M near ?_
      rw [z_a31 aL]
      refine ⟨zI_inI (by omega) (by omega), nm_e ⟨it, ?_⟩⟩
      refine yw_cell h s.2.2.2.2.1 he _ M near ?_
      rw [z_a31 aY]
      refine ⟨zI_inI (by omega) (by omega), nm_e ⟨it, ?_⟩⟩
      refine yw_cell h s.2.1 he _ M near ?_
      rw [z_a31 aD, zI_clI (by omega), zI_clI (by omega), zI_clI (by omega), z_0, z_1]
      rw [z_1] at en
      have iD : vp_in (zI (ce c (kD c t) e)) 32 := zI_inI (by omega) (by omega)
      refine ⟨it, br_c (fun e0 => ?_) (fun e0 => ⟨it, br_c (fun e1 => ?_) (fun e1 => ?_)⟩)⟩
      · rw [zI_eq (by omega) (by omega)] at e0
        refine ⟨iD, nm_e (nm_r en (hJ _ ?_))⟩
        unfold sv at hp
        rw [if_pos (by omega)] at hp; exact hp
      · rw [zI_eq (by omega) (by omega)] at e0 e1
        refine ⟨iD, nm_e (nm_r en (hJ _ ?_))⟩
        unfold sv at hp
        rw [if_neg (by omega), if_pos (by omega)] at hp; exact hp
      · rw [zI_eq (by omega) (by omega)] at e0 e1
        refine ⟨iD, nm_e (nm_r en (hJ _ ?_))⟩
        unfold sv at hp
        rw [if_neg (by omega), if_neg (by omega)] at hp; exact hp
theorem yw_carry {c : Cf} (h : OK c) {e : Nat} (he : e < kN c * kN c) (post : SY → Prop) (M near : Nat → Int32) (hp : post (YS c (bd c e M) near)) : wpY_carryOut post (YS c M near) (zI e) := by
  have hn := OK_n h
  exact ⟨4, ym_c2 h he post near 4 0 M (by omega) (by omega) hp⟩
theorem ym_r12 {c : Cf} (h : OK c) (post : Int32 → SY → Prop) (M near : Nat → Int32) (hp : post (zI (kN c * kN c : Nat)) (YS c (fd c (List.range (kN c * kN c)) M) near)) :
    ∀ (n e : Nat), e ≤ kN c * kN c → kN c * kN c - e < n → wY_run_12 post n (zI e) (zI (kN c)) (zI (km c)) (zI (kP c)) (zI (kQ c)) (zI (kR c)) (zI (kS c)) (fd c (List.range e) M) (jA c) (jB c) (jC c) (jO c) (jD c) (jL c) (jY c) near := by
  have hK := eo_K (OK_N h)
  intro n
  induction n with
  | zero => intro e _ h; omega
  | succ n ih =>
    intro e he hm
    refine br_c (fun q => ?_) (fun q => ?_)
    · rw [zI_mul, zI_le (by omega) (by omega)] at q
      have : e = kN c * kN c := by omega
      subst this
      rw [zI_mul]
      exact hp
    · rw [zI_mul, zI_le (by omega) (by omega)] at q
      refine yw_carry h (by omega) _ _ near ?_
      have i := ih (e + 1) (by omega) (by omega)
      rw [List.range_succ, fd_1] at i
      exact nm_r (by rw [z_1, zI_add]; rfl) i
theorem yw_run {c : Cf} (h : OK c) (post : Int32 → SY → Prop) (M near : Nat → Int32)
    (h0 : ¬ YL c → ∀ near', post (zI (-3)) (YS c M near'))
    (h1 : YL c → ∀ near', post (zI (kN c * kN c : Nat)) (YS c (fd c (List.range (kN c * kN c)) M) near')) : wpY_run post (YS c M near) := by
  have hK := eo_K (OK_N h)
  unfold wpY_run
  refine yw_legal h _ M near (fun near' => ?_)
  refine zB_br (fun g => h0 g near') (fun g => ⟨30, ?_⟩)
  exact ym_r12 h post M near' (h1 g near') 30 0 (by omega) (by omega)
theorem ym_i20 {c : Cf} (h : OK c) {e : Nat} (he : e < kN c * kN c) {k : Int} (hk : -2147483648 ≤ k ∧ k ≤ 2147483647) (post : Int32 → Prop) (J2 : Int32 → Prop) (M near : Nat → Int32)
    (hp : (rk c e : Int) = k → post (zI (8 * ((e / kN c : Nat) : Int) + ((e % kN c : Nat) : Int)))) (hJ : (rk c e : Int) ≠ k → J2 (zI (e + 1 : Nat))) :
    ∀ (n f : Nat), f ≤ kN c * kN c → kN c * kN c - f < n → wY_iteration_20 post J2 (zI k) (zI e) (zI (kN c)) (zI (km c)) (zI (kP c)) (zI (kQ c)) (zI (kR c)) (zI (kS c)) M (jA c) (jB c) (jC c) (jO c) (jD c) (jL c) (jY c) near n (zI (cn (fun g => BF c g e) f : Nat)) (zI f) := by
  have hN := OK_N h
  have hK := eo_K hN
  have n0 := y_n0 h
  intro n
  induction n with
  | zero => intro f _ h; omega
  | succ n ih =>
    intro f hf hm
    have hl := cn_le (fun g => BF c g e) f
    refine br_c (fun q => ?_) (fun q => ?_)
    · rw [zI_mul, zI_le (by omega) (by omega)] at q
      have : f = kN c * kN c := by omega
      subst this
      refine br_c (fun q1 => ⟨n0, n0, ?_⟩) (fun q1 => ?_)
      · rw [zI_eq (by omega) hk] at q1
        rw [zI_dn (by omega) (by omega), zI_rn, z_8, zI_mul, zI_add]
        exact hp q1
      · rw [zI_eq (by omega) hk] at q1
        exact nm_r (by rw [z_1, zI_add]; rfl) (hJ q1)
    · rw [zI_mul, zI_le (by omega) (by omega)] at q
      have i := ih (f + 1) (by omega) (by omega)
      rw [cn_s _ f] at i
      have en : zI (f : Int) + 1 = zI ((f + 1 : Nat) : Int) := by rw [z_1, zI_add]; rfl
      refine yw_before h (by omega) he _ M near ?_
      rw [z_0]
      refine zB_br (fun z => ?_) (fun z => ?_)
      · rw [zN_f z] at i
        exact nm_r en i
      · rw [zN_t z] at i
        exact nm_r (by rw [z_1, zI_add]; rfl) (nm_r en i)
theorem ym_i2 {c : Cf} (h : OK c) {k : Int} (hk : -2147483648 ≤ k ∧ k ≤ 2147483647) (post : Int32 → Prop) (M near : Nat → Int32)
    (hp : ∀ e, e < kN c * kN c → (rk c e : Int) = k → post (zI (8 * ((e / kN c : Nat) : Int) + ((e % kN c : Nat) : Int)))) (h0 : (∀ e, e < kN c * kN c → (rk c e : Int) ≠ k) → post (zI (-1))) :
    ∀ (n e : Nat), e ≤ kN c * kN c → kN c * kN c - e < n → (∀ f, f < e → (rk c f : Int) ≠ k) → wY_iteration_2 post (zI k) (zI (kN c)) (zI (km c)) (zI (kP c)) (zI (kQ c)) (zI (kR c)) (zI (kS c)) M (jA c) (jB c) (jC c) (jO c) (jD c) (jL c) (jY c) near n (zI e) := by
  have hK := eo_K (OK_N h)
  intro n
  induction n with
  | zero => intro e _ h; omega
  | succ n ih =>
    intro e he hm hn
    refine br_c (fun q => ?_) (fun q => ?_)
    · rw [zI_mul, zI_le (by omega) (by omega)] at q
      exact h0 (fun f hf => hn f (by omega))
    · rw [zI_mul, zI_le (by omega) (by omega)] at q
      refine ⟨30, ?_⟩
      exact ym_i20 h (by omega) hk post _ M near (hp e (by omega)) (fun z => ih (e + 1) (by omega) (by omega) (fun f hf => by
        rcases Nat.lt_or_eq_of_le (Nat.le_of_lt_succ hf) with y | y
        · exact hn f y
        · subst y; exact z)) 30 0 (by omega) (by omega)
theorem yw_iteration {c : Cf} (h : OK c) {k : Int} (hk : -2147483648 ≤ k ∧ k ≤ 2147483647) (post : Int32 → Prop) (M near : Nat → Int32)
    (hp : ∀ e, e < kN c * kN c → (rk c e : Int) = k → post (zI (8 * ((e / kN c : Nat) : Int) + ((e % kN c : Nat) : Int)))) (h0 : (∀ e, e < kN c * kN c → (rk c e : Int) ≠ k) → post (zI (-1))) : wpY_iteration post (YS c M near) (zI k) := by
  have hK := eo_K (OK_N h)
  exact ⟨30, ym_i2 h hk post M near hp h0 30 0 (by omega) (by omega) (fun f hf => by omega)⟩
def ff (c : Cf) (e f : Nat) : Prop := ∀ g, f ≤ g → g < e → kU c g ≠ kU c e
theorem ff_s {c : Cf} {e f : Nat} (h : f < e) : ff c e f ↔ (kU c f ≠ kU c e ∧ ff c e (f + 1)) := by
  constructor
  · intro g
    exact ⟨g f (Nat.le_refl _) h, fun x a b => g x (by omega) b⟩
  · rintro ⟨g1, g2⟩ x a b
    rcases Nat.lt_or_eq_of_le a with z | z
    · exact g2 x (by omega) b
    · subst z; exact g1
theorem ym_w22 {c : Cf} (h : OK c) {e : Nat} (he : e < kN c * kN c) (a : Nat) (post : Int32 → Prop) (J4 : Int32 → Int32 → Prop) (M near : Nat → Int32) :
    ∀ (n f : Nat) (p : Prop), f ≤ e → e - f < n → J4 (zI ((a + zN (p ∧ ff c e f) : Nat) : Int)) (zI (e + 1 : Nat)) → wY_rows_22 post J4 (zI a) (zI e) (zI (kN c)) (zI (km c)) (zI (kP c)) (zI (kQ c)) (zI (kR c)) (zI (kS c)) M (jA c) (jB c) (jC c) (jO c) (jD c) (jL c) (jY c) near n (zB p) (zI f) := by
  have hK := eo_K (OK_N h)
  have ee : zI (e : Int) + 1 = zI ((e + 1 : Nat) : Int) := by rw [z_1, zI_add]; rfl
  intro n
  induction n with
  | zero => intro f p _ h; omega
  | succ n ih =>
    intro f p hf hm hp
    have en : zI (f : Int) + 1 = zI ((f + 1 : Nat) : Int) := by rw [z_1, zI_add]; rfl
    refine br_c (fun q => ?_) (fun q => ?_)
    · rw [zI_le (by omega) (by omega)] at q
      have x : ff c e f := fun g a b => by omega
      rw [z_0]
      refine zB_br (fun z => ?_) (fun z => ?_)
      · rw [zN_f (fun y => z y.1)] at hp
        exact nm_r ee hp
      · rw [zN_t ⟨z, x⟩] at hp
        exact nm_r (by rw [z_1, zI_add]; rfl) (nm_r ee hp)
    · rw [zI_le (by omega) (by omega)] at q
      have hlt : f < e := by omega
      have b1 := kU_b h he
      have b2 := kU_b h (e := f) (by omega)
      have h0 : ¬ (p ∧ kU c f ≠ kU c e) → wY_rows_22 post J4 (zI a) (zI e) (zI (kN c)) (zI (km c)) (zI (kP c)) (zI (kQ c)) (zI (kR c)) (zI (kS c)) M (jA c) (jB c) (jC c) (jO c) (jD c) (jL c) (jY c) near n (zI 0) (zI ((f + 1 : Nat) : Int)) := fun z => by
        have := ih (f + 1) False (by omega) (by omega) (by rw [zN_c (show (False ∧ ff c e (f + 1)) ↔ (p ∧ ff c e f) from ⟨fun y => y.1.elim, fun y => absurd ⟨y.1, ((ff_s hlt).1 y.2).1⟩ z⟩)]; exact hp)
        rw [zB_f id] at this; exact this
      have h1 : p → kU c f ≠ kU c e → wY_rows_22 post J4 (zI a) (zI e) (zI (kN c)) (zI (km c)) (zI (kP c)) (zI (kQ c)) (zI (kR c)) (zI (kS c)) M (jA c) (jB c) (jC c) (jO c) (jD c) (jL c) (jY c) near n (zI 1) (zI ((f + 1 : Nat) : Int)) := fun z1 z2 => by
        have := ih (f + 1) True (by omega) (by omega) (by rw [zN_c (show (True ∧ ff c e (f + 1)) ↔ (p ∧ ff c e f) from ⟨fun y => ⟨z1, (ff_s hlt).2 ⟨z2, y.2⟩⟩, fun y => ⟨trivial, ((ff_s hlt).1 y.2).2⟩⟩)]; exact hp)
        rw [zB_t trivial] at this; exact this
      rw [z_0, z_1]
      rw [z_1] at en
      refine zB_br (fun z => nm_r en (h0 (fun y => z y.1))) (fun z => ?_)
      refine yw_u h (by omega) _ M near ?_
      refine yw_u h he _ M near ?_
      refine br_c (fun q1 => ?_) (fun q1 => ?_)
      · rw [zI_eq (by omega) (by omega)] at q1
        exact nm_r en (h0 (fun y => y.2 q1))
      · rw [zI_eq (by omega) (by omega)] at q1
        exact nm_r en (h1 z q1)
theorem ym_w4 {c : Cf} (h : OK c) (post : Int32 → Prop) (M near : Nat → Int32) (hp : post (zI (cn (fun e => ∀ f, f < e → kU c f ≠ kU c e) (kN c * kN c) : Nat))) :
    ∀ (n e : Nat), e ≤ kN c * kN c → kN c * kN c - e < n → wY_rows_4 post (zI (kN c)) (zI (km c)) (zI (kP c)) (zI (kQ c)) (zI (kR c)) (zI (kS c)) M (jA c) (jB c) (jC c) (jO c) (jD c) (jL c) (jY c) near n (zI (cn (fun e => ∀ f, f < e → kU c f ≠ kU c e) e : Nat)) (zI e) := by
  have hK := eo_K (OK_N h)
  intro n
  induction n with
  | zero => intro e _ h; omega
  | succ n ih =>
    intro e he hm
    refine br_c (fun q => ?_) (fun q => ?_)
    · rw [zI_mul, zI_le (by omega) (by omega)] at q
      have : e = kN c * kN c := by omega
      subst this
      exact hp
    · rw [zI_mul, zI_le (by omega) (by omega)] at q
      refine ⟨30, ?_⟩
      have i := ih (e + 1) (by omega) (by omega)
      rw [cn_s _ e] at i
      have := ym_w22 h (e := e) (by omega) (cn (fun e => ∀ f, f < e → kU c f ≠ kU c e) e) post (wY_rows_4 post (zI (kN c)) (zI (km c)) (zI (kP c)) (zI (kQ c)) (zI (kR c)) (zI (kS c)) M (jA c) (jB c) (jC c) (jO c) (jD c) (jL c) (jY c) near n) M near 30 0 True (by omega) (by omega) (by
        rw [zN_c (show (True ∧ ff c e 0) ↔ (∀ f, f < e → kU c f ≠ kU c e) from ⟨fun z f hf => z.2 f (Nat.zero_le _) hf, fun z => ⟨trivial, fun f _ hf => z f hf⟩⟩)]
        exact i)
      rw [zB_t trivial] at this
      exact this
theorem yw_rows {c : Cf} (h : OK c) (post : Int32 → Prop) (M near : Nat → Int32) (hp : post (zI (cn (fun e => ∀ f, f < e → kU c f ≠ kU c e) (kN c * kN c) : Nat))) : wpY_rows post (YS c M near) := by
  have hK := eo_K (OK_N h)
  exact ⟨30, ym_w4 h post M near hp 30 0 (by omega) (by omega)⟩
theorem ym_g4 {c : Cf} (post : Int32 → Prop) (M near : Nat → Int32) (hp : post (dg M 32)) :
    ∀ (n k : Nat), k ≤ 32 → 32 - k < n → wY_digest_4 post (zI (kN c)) (zI (km c)) (zI (kP c)) (zI (kQ c)) (zI (kR c)) (zI (kS c)) M (jA c) (jB c) (jC c) (jO c) (jD c) (jL c) (jY c) near n (dg M k) (zI k) := by
  intro n
  induction n with
  | zero => intro k _ h; omega
  | succ n ih =>
    intro k hk hm
    refine br_c (fun e => ?_) (fun e => ?_)
    · rw [z_32, zI_le (by omega) (by omega)] at e
      have : k = 32 := by omega
      subst this; exact hp
    · rw [z_32, zI_le (by omega) (by omega)] at e
      have en : zI (k : Int) + 1 = zI ((k + 1 : Nat) : Int) := by rw [z_1, zI_add]; rfl
      refine ⟨zI_in (by omega) (by omega), nm_r (e' := dg M (k + 1)) (by rw [en, zI_cl (by omega)]; rfl) (nm_r en (ih (k + 1) (by omega) (by omega)))⟩
theorem yw_digest {c : Cf} (post : Int32 → Prop) (M near : Nat → Int32) (hp : post (dg M 32)) : wpY_digest post (YS c M near) :=
  ⟨33, ym_g4 post M near hp 33 0 (by omega) (by omega)⟩
end
section
/-! the small methods -/
theorem xw_isA {k : Int} (hk : -2147483648 ≤ k ∧ k ≤ 2147483647) (post : Int32 → Prop) (hp : post (zB (0 ≤ k ∧ k ≤ 5))) : wpX_isAccess post (zI k) := by
  refine br_c (fun e => ?_) (fun e => br_c (fun e1 => ?_) (fun e1 => ?_))
  · rw [z_0, zI_lt hk (by omega)] at e
    rw [zB_f (by omega)] at hp; exact hp
  · rw [z_6, zI_le (by omega) hk] at e1
    rw [zB_f (by omega)] at hp; exact hp
  · rw [z_0, zI_lt hk (by omega)] at e
    rw [z_6, zI_le (by omega) hk] at e1
    rw [zB_t (by omega)] at hp; exact hp
theorem xw_isC {k : Int} (hk : -2147483648 ≤ k ∧ k ≤ 2147483647) (post : Int32 → Prop) (hp : post (zB (0 ≤ k ∧ k ≤ 31))) : wpX_isCell post (zI k) := by
  refine br_c (fun e => ?_) (fun e => br_c (fun e1 => ?_) (fun e1 => ?_))
  · rw [z_0, zI_lt hk (by omega)] at e
    rw [zB_f (by omega)] at hp; exact hp
  · rw [z_32, zI_le (by omega) hk] at e1
    rw [zB_f (by omega)] at hp; exact hp
  · rw [z_0, zI_lt hk (by omega)] at e
    rw [z_32, zI_le (by omega) hk] at e1
    rw [zB_t (by omega)] at hp; exact hp
theorem xw_isS {k : Int} (hk : -2147483648 ≤ k ∧ k ≤ 2147483647) (post : Int32 → Prop) (hp : post (zB (-3 ≤ k ∧ k ≤ 3))) : wpX_isSmall post (zI k) := by
  refine br_c (fun e => ?_) (fun e => br_c (fun e1 => ?_) (fun e1 => ?_))
  · rw [z_m3, zI_lt hk (by omega)] at e
    rw [zB_f (by omega)] at hp; exact hp
  · rw [z_3, zI_lt (by omega) hk] at e1
    rw [zB_f (by omega)] at hp; exact hp
  · rw [z_m3, zI_lt hk (by omega)] at e
    rw [z_3, zI_lt (by omega) hk] at e1
    rw [zB_t (by omega)] at hp; exact hp
theorem yw_named {c : Cf} {k : Int} (hk : -2147483648 ≤ k ∧ k ≤ 2147483647) (post : Int32 → Prop) (M near : Nat → Int32) (hp : post (zB (0 ≤ k ∧ k ≤ 5))) : wpY_named post (YS c M near) (zI k) := by
  refine br_c (fun e => ?_) (fun e => br_c (fun e1 => ?_) (fun e1 => ?_))
  · rw [z_0, zI_lt hk (by omega)] at e
    rw [zB_f (by omega)] at hp; exact hp
  · rw [z_5, zI_lt (by omega) hk] at e1
    rw [zB_f (by omega)] at hp; exact hp
  · rw [z_0, zI_lt hk (by omega)] at e
    rw [z_5, zI_lt (by omega) hk] at e1
    rw [zB_t (by omega)] at hp; exact hp
theorem yw_small {c : Cf} {k : Int} (hk : -2147483648 ≤ k ∧ k ≤ 2147483647) (post : Int32 → Prop) (M near : Nat → Int32) (hp : post (zB (-3 ≤ k ∧ k ≤ 3))) : wpY_small post (YS c M near) (zI k) := by
  refine br_c (fun e => ?_) (fun e => br_c (fun e1 => ?_) (fun e1 => ?_))
  · rw [z_m3, zI_lt hk (by omega)] at e
    rw [zB_f (by omega)] at hp; exact hp
  · rw [z_3, zI_lt (by omega) hk] at e1
    rw [zB_f (by omega)] at hp; exact hp
  · rw [z_m3, zI_lt hk (by omega)] at e
    rw [z_3, zI_lt (by omega) hk] at e1
    rw [zB_t (by omega)] at hp; exact hp
def upZ (f : Nat → Int) (k : Nat) (x : Int) : Nat → Int := fun j => if j = k then x else f j
def upN (f : Nat → Nat) (k : Nat) (x : Nat) : Nat → Nat := fun j => if j = k then x else f j
theorem upZ_e (f : Nat → Int) (k : Nat) (x : Int) : upd (fun j => zI (f j)) k (zI x) = fun j => zI (upZ f k x j) := by
  funext j
  unfold upd upZ
  by_cases z : j = k
  · rw [if_pos z, if_pos z]
  · rw [if_neg z, if_neg z]
theorem upN_e (f : Nat → Nat) (k : Nat) (x : Nat) : upd (fun j => zI (f j : Int)) k (zI (x : Int)) = fun j => zI (upN f k x j : Int) := by
  funext j
  unfold upd upN
  by_cases z : j = k
  · rw [if_pos z, if_pos z]
  · rw [if_neg z, if_neg z]
theorem upN_p {P : Nat → Prop} {f : Nat → Nat} {k x : Nat} (h : ∀ j, P (f j)) (hx : P x) (j : Nat) : P (upN f k x j) := by
  unfold upN
  by_cases z : j = k
  · rw [if_pos z]; exact hx
  · rw [if_neg z]; exact h j
/-! access -/
def kac (c : Cf) (k : Nat) (a b d : Int) : Cf := (kN c, km c, kP c, kQ c, kR c, kS c, upZ (kA c) k a, upZ (kB c) k b, upZ (kC c) k d, kO c, kD c, kL c, kG c, kY c)
def XA (c : Cf) (k a b d : Int) : Prop := (0 ≤ k ∧ k ≤ 5) ∧ (-3 ≤ a ∧ a ≤ 5) ∧ (-3 ≤ b ∧ b ≤ 5) ∧ (0 ≤ d ∧ d ≤ 31) ∧ ∀ i j : Int, 0 ≤ i → i < kN c → 0 ≤ j → j < kN c → 0 ≤ a * i + b * j + d ∧ a * i + b * j + d ≤ 31
theorem z_pb {a i n : Int} (h0 : 0 ≤ i) (h1 : i ≤ n) : (0 ≤ a → 0 ≤ a * i ∧ a * i ≤ a * n) ∧ (a ≤ 0 → a * n ≤ a * i ∧ a * i ≤ 0) := by
  refine ⟨fun h => ⟨Int.mul_nonneg h h0, Int.mul_le_mul_of_nonneg_left h1 h⟩, fun h => ?_⟩
  have b1 : 0 ≤ (-a) * i := Int.mul_nonneg (by omega) h0
  have b2 : (-a) * i ≤ (-a) * n := Int.mul_le_mul_of_nonneg_left h1 (by omega)
  rw [Int.neg_mul] at b1 b2
  rw [Int.neg_mul] at b2
  omega
theorem XA_c {c : Cf} (h : OK c) {k a b d : Int} (hk : 0 ≤ k ∧ k ≤ 5) (ha : -3 ≤ a ∧ a ≤ 5) (hb : -3 ≤ b ∧ b ≤ 5) (hd : 0 ≤ d ∧ d ≤ 31) :
    XA c k a b d ↔ ((0 ≤ a * (kN c - 1) + d ∧ a * (kN c - 1) + d ≤ 31) ∧ (0 ≤ b * (kN c - 1) + d ∧ b * (kN c - 1) + d ≤ 31) ∧ (0 ≤ a * (kN c - 1) + b * (kN c - 1) + d ∧ a * (kN c - 1) + b * (kN c - 1) + d ≤ 31)) := by
  have hN := OK_N h
  constructor
  · intro x
    have y := x.2.2.2.2
    have y1 := y (kN c - 1) 0 (by omega) (by omega) (by omega) (by omega)
    have y2 := y 0 (kN c - 1) (by omega) (by omega) (by omega) (by omega)
    have y3 := y (kN c - 1) (kN c - 1) (by omega) (by omega) (by omega) (by omega)
    rw [Int.mul_zero] at y1 y2
    omega
  · rintro ⟨y1, y2, y3⟩
    refine ⟨hk, ha, hb, hd, fun i j i0 i1 j0 j1 => ?_⟩
    have p1 := z_pb (a := a) (n := kN c - 1) i0 (by omega)
    have p2 := z_pb (a := b) (n := kN c - 1) j0 (by omega)
    rcases Int.le_total 0 a with s | s
    · have q1 := p1.1 s
      rcases Int.le_total 0 b with s2 | s2
      · have q2 := p2.1 s2
        omega
      · have q2 := p2.2 s2
        omega
    · have q1 := p1.2 s
      rcases Int.le_total 0 b with s2 | s2
      · have q2 := p2.1 s2
        omega
      · have q2 := p2.2 s2
        omega
theorem xw_access {c : Cf} (h : OK c) {k a b d : Int} (hk : -2147483648 ≤ k ∧ k ≤ 2147483647) (ha : -2147483648 ≤ a ∧ a ≤ 2147483647) (hb : -2147483648 ≤ b ∧ b ≤ 2147483647) (hd : -2147483648 ≤ d ∧ d ≤ 2147483647)
    (post : Int32 → SX → Prop) (kn : Int32) (T : Int64) (lo hi : Int32) (M : Nat → Int32)
    (h0 : ¬ XA c k a b d → post (zI 0) (XS c kn T lo hi M)) (h1 : XA c k a b d → post (zI 1) (XS (kac c k.toNat a b d) 0 T lo hi M)) : wpX_access post (XS c kn T lo hi M) (zI k) (zI a) (zI b) (zI d) := by
  have hN := OK_N h
  unfold wpX_access
  refine xw_isA hk _ ?_
  refine zB_br (fun z => h0 (fun x => z x.1)) (fun zk => ?_)
  refine br_c (fun e => ?_) (fun e1 => br_c (fun e => ?_) (fun e2 => br_c (fun e => ?_) (fun e3 => br_c (fun e => ?_) (fun e4 => ?_))))
  · rw [z_m3, zI_lt ha (by omega)] at e
    exact h0 (fun x => by have := x.2.1; omega)
  · rw [z_5, zI_lt (by omega) ha] at e
    exact h0 (fun x => by have := x.2.1; omega)
  · rw [z_m3, zI_lt hb (by omega)] at e
    exact h0 (fun x => by have := x.2.2.1; omega)
  · rw [z_5, zI_lt (by omega) hb] at e
    exact h0 (fun x => by have := x.2.2.1; omega)
  rw [z_m3, zI_lt ha (by omega)] at e1
  rw [z_5, zI_lt (by omega) ha] at e2
  rw [z_m3, zI_lt hb (by omega)] at e3
  rw [z_5, zI_lt (by omega) hb] at e4
  refine xw_isC hd _ ?_
  refine zB_br (fun z => h0 (fun x => z x.2.2.2.1)) (fun zd => ?_)
  have X := XA_c h (k := k) (a := a) (b := b) (d := d) zk (by omega) (by omega) zd
  have b1 := z_mb (a := a) (b := (kN c : Int) - 1) 5 4 ⟨by omega, by omega⟩ ⟨by omega, by omega⟩
  have b2 := z_mb (a := b) (b := (kN c : Int) - 1) 5 4 ⟨by omega, by omega⟩ ⟨by omega, by omega⟩
  refine nm_r (e' := zI ((kN c : Int) - 1)) (by rw [z_1, zI_sub]) ?_
  rw [zI_mul, zI_mul, zI_add, zI_add, zI_add, zI_add]
  refine xw_isC (by omega) _ ?_
  refine zB_br (fun z => h0 (fun x => z (X.1 x).1)) (fun z1 => ?_)
  refine xw_isC (by omega) _ ?_
  refine zB_br (fun z => h0 (fun x => z (X.1 x).2.1)) (fun z2 => ?_)
  refine xw_isC (by omega) _ ?_
  refine zB_br (fun z => h0 (fun x => z (X.1 x).2.2)) (fun z3 => ?_)
  have ik : vp_in (zI k) 6 := zI_inI (by omega) (by omega)
  have ck : (zI k).toNatClampNeg = k.toNat := zI_clI (by omega)
  have f := h1 (X.2 ⟨z1, z2, z3⟩)
  rw [z_byte (by omega), z_byte (by omega), z_byte (by omega), ck]
  refine ⟨ik, nm_r (upZ_e (kA c) k.toNat a) ⟨ik, nm_r (upZ_e (kB c) k.toNat b) ⟨ik, nm_r (upZ_e (kC c) k.toNat d) ?_⟩⟩⟩
  exact f
def yA (c : Cf) (a b d : Int) (e : Nat) : Prop := ∀ f, e ≤ f → f < kN c * kN c → 0 ≤ a * ((f / kN c : Nat) : Int) + b * ((f % kN c : Nat) : Int) + d ∧ a * ((f / kN c : Nat) : Int) + b * ((f % kN c : Nat) : Int) + d ≤ 31
theorem yA_s {c : Cf} {a b d : Int} {e : Nat} (h : e < kN c * kN c) : yA c a b d e ↔ ((0 ≤ a * ((e / kN c : Nat) : Int) + b * ((e % kN c : Nat) : Int) + d ∧ a * ((e / kN c : Nat) : Int) + b * ((e % kN c : Nat) : Int) + d ≤ 31) ∧ yA c a b d (e + 1)) := by
  constructor
  · intro g
    exact ⟨g e (Nat.le_refl _) h, fun f x y => g f (by omega) y⟩
  · rintro ⟨g1, g2⟩ f x y
    rcases Nat.lt_or_eq_of_le x with z | z
    · exact g2 f (by omega) y
    · subst z; exact g1
theorem yA_X {c : Cf} (h : OK c) {a b d : Int} : yA c a b d 0 ↔ ∀ i j : Int, 0 ≤ i → i < kN c → 0 ≤ j → j < kN c → 0 ≤ a * i + b * j + d ∧ a * i + b * j + d ≤ 31 := by
  have hN := OK_N h
  constructor
  · intro g i j i0 i1 j0 j1
    obtain ⟨e, e1, e2, e3⟩ := eo_mk hN ⟨i0, i1⟩ ⟨j0, j1⟩
    have := g e (Nat.zero_le _) e1
    rw [e2, e3] at this
    exact this
  · intro g f _ hf
    have r := eo_r hN hf
    exact g _ _ (by omega) (by omega) (by omega) (by omega)
theorem ym_a51 {c : Cf} (h : OK c) {k a b d : Int} (hk : 0 ≤ k ∧ k ≤ 5) (ha : -3 ≤ a ∧ a ≤ 5) (hb : -3 ≤ b ∧ b ≤ 5) (hd : 0 ≤ d ∧ d ≤ 31) (post : Int32 → SY → Prop) (M near : Nat → Int32) :
    ∀ (n e : Nat) (p : Prop), e ≤ kN c * kN c → kN c * kN c - e < n → (¬ (p ∧ yA c a b d e) → post (zI 0) (YS c M near)) → ((p ∧ yA c a b d e) → post (zI 1) (YS (kac c k.toNat a b d) M near)) →
    wY_access_51 post (zI k) (zI a) (zI b) (zI d) (zI (kN c)) (zI (km c)) (zI (kP c)) (zI (kQ c)) (zI (kR c)) (zI (kS c)) M (jA c) (jB c) (jC c) (jO c) (jD c) (jL c) (jY c) near n (zB p) (zI e) := by
  have hN := OK_N h
  have hK := eo_K hN
  have n0 := y_n0 h
  intro n
  induction n with
  | zero => intro e p _ h; omega
  | succ n ih =>
    intro e p he hm h0 h1
    refine br_c (fun q => ?_) (fun q => ⟨n0, n0, ?_⟩)
    · rw [zI_mul, zI_le (by omega) (by omega)] at q
      have x : yA c a b d e := fun f x y => by omega
      rw [z_0]
      refine zB_br (fun z => ?_) (fun z => ?_)
      · refine ⟨zB_n p, ?_⟩
        rw [zB_f z]
        exact h0 (fun y => z y.1)
      · have ik : vp_in (zI k) 6 := zI_inI (by omega) (by omega)
        have ck : (zI k).toNatClampNeg = k.toNat := zI_clI (by omega)
        have f := h1 ⟨z, x⟩
        rw [ck]
        refine ⟨ik, nm_r (upZ_e (kA c) k.toNat a) ⟨ik, nm_r (upZ_e (kB c) k.toNat b) ⟨ik, nm_r (upZ_e (kC c) k.toNat d) ⟨zB_n p, ?_⟩⟩⟩⟩
        rw [zB_t z]
        exact f
    · rw [zI_mul, zI_le (by omega) (by omega)] at q
      have hlt : e < kN c * kN c := by omega
      have r := eo_r hN hlt
      have b1 := z_mb (a := a) (b := ((e / kN c : Nat) : Int)) 5 4 ⟨by omega, by omega⟩ ⟨by omega, by omega⟩
      have b2 := z_mb (a := b) (b := ((e % kN c : Nat) : Int)) 5 4 ⟨by omega, by omega⟩ ⟨by omega, by omega⟩
      have en : zI (e : Int) + 1 = zI ((e + 1 : Nat) : Int) := by rw [z_1, zI_add]; rfl
      have S := yA_s (a := a) (b := b) (d := d) hlt
      have j0 : ¬ (p ∧ (0 ≤ a * ((e / kN c : Nat) : Int) + b * ((e % kN c : Nat) : Int) + d ∧ a * ((e / kN c : Nat) : Int) + b * ((e % kN c : Nat) : Int) + d ≤ 31)) → wY_access_51 post (zI k) (zI a) (zI b) (zI d) (zI (kN c)) (zI (km c)) (zI (kP c)) (zI (kQ c)) (zI (kR c)) (zI (kS c)) M (jA c) (jB c) (jC c) (jO c) (jD c) (jL c) (jY c) near n (zI 0) (zI ((e + 1 : Nat) : Int)) := fun z => by
        have := ih (e + 1) False (by omega) (by omega) (fun _ => h0 (fun y => z ⟨y.1, (S.1 y.2).1⟩)) (fun y => y.1.elim)
        rw [zB_f id] at this; exact this
      have j1 : p → (0 ≤ a * ((e / kN c : Nat) : Int) + b * ((e % kN c : Nat) : Int) + d ∧ a * ((e / kN c : Nat) : Int) + b * ((e % kN c : Nat) : Int) + d ≤ 31) → wY_access_51 post (zI k) (zI a) (zI b) (zI d) (zI (kN c)) (zI (km c)) (zI (kP c)) (zI (kQ c)) (zI (kR c)) (zI (kS c)) M (jA c) (jB c) (jC c) (jO c) (jD c) (jL c) (jY c) near n (zI 1) (zI ((e + 1 : Nat) : Int)) := fun z1 z2 => by
        have := ih (e + 1) True (by omega) (by omega) (fun y => h0 (fun w => y ⟨trivial, (S.1 w.2).2⟩)) (fun y => h1 ⟨z1, S.2 ⟨z2, y.2⟩⟩)
        rw [zB_t trivial] at this; exact this
      clear ih
      refine nm_r (e' := zI (a * ((e / kN c : Nat) : Int) + b * ((e % kN c : Nat) : Int) + d)) (by rw [zI_dn (by omega) (by omega), zI_rn, zI_mul, zI_mul, zI_add, zI_add]) ?_
      rw [z_0, z_1, z_31]
      rw [z_1] at en
      refine zB_br (fun z => nm_r en (j0 (fun y => z y.1))) (fun z => br_c (fun q1 => ?_) (fun q1 => br_c (fun q2 => ?_) (fun q2 => ?_)))
      · rw [zI_lt (by omega) (by omega)] at q1
        exact nm_r en (j0 (fun y => by have := y.2; omega))
      · rw [zI_lt (by omega) (by omega)] at q2
        exact nm_r en (j0 (fun y => by have := y.2; omega))
      · rw [zI_lt (by omega) (by omega)] at q1 q2
        exact nm_r en (j1 z (by omega))
theorem yw_access {c : Cf} (h : OK c) {k a b d : Int} (hk : -2147483648 ≤ k ∧ k ≤ 2147483647) (ha : -2147483648 ≤ a ∧ a ≤ 2147483647) (hb : -2147483648 ≤ b ∧ b ≤ 2147483647) (hd : -2147483648 ≤ d ∧ d ≤ 2147483647)
    (post : Int32 → SY → Prop) (M near : Nat → Int32)
    (h0 : ¬ XA c k a b d → post (zI 0) (YS c M near)) (h1 : XA c k a b d → post (zI 1) (YS (kac c k.toNat a b d) M near)) : wpY_access post (YS c M near) (zI k) (zI a) (zI b) (zI d) := by
  have hK := eo_K (OK_N h)
  refine br_c (fun e => ?_) (fun e1 => br_c (fun e => ?_) (fun e2 => br_c (fun e => ?_) (fun e3 => br_c (fun e => ?_) (fun e4 => br_c (fun e => ?_) (fun e5 => br_c (fun e => ?_) (fun e6 => br_c (fun e => ?_) (fun e7 => br_c (fun e8 => ⟨30, ?_⟩) (fun e => ?_))))))))
  · rw [z_0, zI_lt hk (by omega)] at e
    exact h0 (fun x => by have := x.1; omega)
  · rw [z_5, zI_lt (by omega) hk] at e
    exact h0 (fun x => by have := x.1; omega)
  · rw [z_m3, zI_lt ha (by omega)] at e
    exact h0 (fun x => by have := x.2.1; omega)
  · rw [z_5, zI_lt (by omega) ha] at e
    exact h0 (fun x => by have := x.2.1; omega)
  · rw [z_m3, zI_lt hb (by omega)] at e
    exact h0 (fun x => by have := x.2.2.1; omega)
  · rw [z_5, zI_lt (by omega) hb] at e
    exact h0 (fun x => by have := x.2.2.1; omega)
  · rw [z_0, zI_lt hd (by omega)] at e
    exact h0 (fun x => by have := x.2.2.2.1; omega)
  · rw [z_0, zI_lt hk (by omega)] at e1
    rw [z_5, zI_lt (by omega) hk] at e2
    rw [z_m3, zI_lt ha (by omega)] at e3
    rw [z_5, zI_lt (by omega) ha] at e4
    rw [z_m3, zI_lt hb (by omega)] at e5
    rw [z_5, zI_lt (by omega) hb] at e6
    rw [z_0, zI_lt hd (by omega)] at e7
    rw [z_31, zI_le hd (by omega)] at e8
    have := ym_a51 h (k := k) (a := a) (b := b) (d := d) (by omega) (by omega) (by omega) (by omega) post M near 30 0 True (by omega) (by omega)
      (fun z => h0 (fun x => z ⟨trivial, (yA_X h).2 x.2.2.2.2⟩)) (fun z => h1 ⟨by omega, by omega, by omega, by omega, (yA_X h).1 z.2⟩)
    rw [zB_t trivial] at this
    exact this
  · rw [z_31, zI_le hd (by omega)] at e
    exact h0 (fun x => by have := x.2.2.2.1; omega)
theorem OK_ac {c : Cf} (h : OK c) {k a b d : Int} (x : XA c k a b d) : OK (kac c k.toNat a b d) := by
  refine ⟨h.1, h.2.1, fun j => ?_, h.2.2.2⟩
  show (-3 ≤ upZ (kA c) k.toNat a j ∧ upZ (kA c) k.toNat a j ≤ 5) ∧ (-3 ≤ upZ (kB c) k.toNat b j ∧ upZ (kB c) k.toNat b j ≤ 5) ∧ (0 ≤ upZ (kC c) k.toNat d j ∧ upZ (kC c) k.toNat d j ≤ 31) ∧ ∀ i l : Int, 0 ≤ i → i < kN c → 0 ≤ l → l < kN c → 0 ≤ upZ (kA c) k.toNat a j * i + upZ (kB c) k.toNat b j * l + upZ (kC c) k.toNat d j ∧ upZ (kA c) k.toNat a j * i + upZ (kB c) k.toNat b j * l + upZ (kC c) k.toNat d j ≤ 31
  unfold upZ
  by_cases z : j = k.toNat
  · simp only [if_pos z]
    exact ⟨x.2.1, x.2.2.1, x.2.2.2.1, x.2.2.2.2⟩
  · simp only [if_neg z]
    exact OK_a h j
end
section
/-! statement, transform -/
def kst (c : Cf) (o d x g y : Nat) : Cf := (kN c, km c + 1, kP c, kQ c, kR c, kS c, kA c, kB c, kC c, upN (kO c) (km c) o, upN (kD c) (km c) d, upN (kL c) (km c) x, upN (kG c) (km c) g, upN (kY c) (km c) y)
def SA (o d x y : Int) : Prop := (0 ≤ o ∧ o ≤ 2) ∧ (0 ≤ d ∧ d ≤ 5) ∧ (0 ≤ x ∧ x ≤ 5) ∧ (o ≠ 2 → 0 ≤ y ∧ y ≤ 5)
def sg (o x y : Int) : Nat := if o = 2 then x.toNat else y.toNat
def sy (o y : Int) : Nat := if o = 2 then 0 else y.toNat
theorem OK_st {c : Cf} (h : OK c) {o d x y : Int} (hm : km c < 3) (s : SA o d x y) : OK (kst c o.toNat d.toNat x.toNat (sg o x y) (sy o y)) := by
  have hN := OK_N h
  obtain ⟨s1, s2, s3, s4⟩ := s
  refine ⟨⟨hN.1, hN.2, ?_⟩, h.2.1, h.2.2.1, fun t => ?_⟩
  · show km c + 1 ≤ 3
    omega
  · show upN (kO c) (km c) o.toNat t ≤ 2 ∧ upN (kD c) (km c) d.toNat t < 6 ∧ upN (kL c) (km c) x.toNat t < 6 ∧ upN (kG c) (km c) (sg o x y) t < 6 ∧ upN (kY c) (km c) (sy o y) t < 6 ∧ (upN (kO c) (km c) o.toNat t = 2 → upN (kG c) (km c) (sg o x y) t = upN (kL c) (km c) x.toNat t) ∧ (upN (kO c) (km c) o.toNat t ≠ 2 → upN (kG c) (km c) (sg o x y) t = upN (kY c) (km c) (sy o y) t)
    unfold upN
    by_cases z : t = km c
    · simp only [if_pos z]
      unfold sg sy
      by_cases w : o = 2
      · simp only [if_pos w]
        exact ⟨by omega, by omega, by omega, by omega, by omega, fun _ => by trivial, fun q => absurd (show o.toNat = 2 by omega) q⟩
      · have s5 := s4 w
        simp only [if_neg w]
        exact ⟨by omega, by omega, by omega, by omega, by omega, fun q => absurd (show o = 2 by omega) w, fun _ => by trivial⟩
    · simp only [if_neg z]
      exact OK_s h t
theorem z_nat {a : Int} (h : 0 ≤ a) : zI a = zI (a.toNat : Int) := congrArg zI (by omega)
theorem xw_s38 {c : Cf} (h : OK c) {o d x y : Int} (s : SA o d x y) (post : Int32 → SX → Prop) (kn : Int32) (T : Int64) (lo hi : Int32) (M : Nat → Int32)
    (hf : ¬ km c < 3 → post (zI (-2)) (XS c kn T lo hi M)) (h1 : km c < 3 → post (zI (km c)) (XS (kst c o.toNat d.toNat x.toNat (sg o x y) (sy o y)) 0 T lo hi M)) :
    wX_statement_38 post (zI o) (zI d) (zI x) (zI y) (zI (kN c)) (zI (km c)) (zI (kP c)) (zI (kQ c)) (zI (kR c)) (zI (kS c)) kn T lo hi M (jA c) (jB c) (jC c) (jO c) (jD c) (jL c) (jG c) := by
  have hm := (OK_n h).2.2
  obtain ⟨s1, s2, s3, s4⟩ := s
  refine br_c (fun e => ?_) (fun e => ?_)
  · rw [z_3, zI_lt (by omega) (by omega)] at e
    have f := h1 (by omega)
    have im : vp_in (zI (km c : Int)) 3 := zI_in (by omega) (by omega)
    have cm : (zI (km c : Int)).toNatClampNeg = km c := zI_cl (by omega)
    rw [z_byte (by omega), z_byte (by omega), z_byte (by omega), cm]
    refine ⟨im, nm_r (e' := fun j => zI (upN (kO c) (km c) o.toNat j : Int)) (by rw [z_nat s1.1]; exact upN_e (kO c) (km c) o.toNat) ⟨im, nm_r (e' := fun j => zI (upN (kD c) (km c) d.toNat j : Int)) (by rw [z_nat s2.1]; exact upN_e (kD c) (km c) d.toNat) ⟨im, nm_r (e' := fun j => zI (upN (kL c) (km c) x.toNat j : Int)) (by rw [z_nat s3.1]; exact upN_e (kL c) (km c) x.toNat) ?_⟩⟩⟩
    have em : zI (km c : Int) + 1 = zI ((km c + 1 : Nat) : Int) := by rw [z_1, zI_add]; rfl
    have ep : zI ((km c + 1 : Nat) : Int) - 1 = zI (km c : Int) := by rw [z_1, zI_sub]; exact congrArg zI (by omega)
    refine br_c (fun w => ?_) (fun w => ?_)
    · rw [z_2, zI_eq (by omega) (by omega)] at w
      have eg : sg o x y = x.toNat := if_pos w
      rw [eg] at f
      refine ⟨im, nm_r (e' := fun j => zI (upN (kG c) (km c) x.toNat j : Int)) (by rw [z_byte (by omega), cm, z_nat s3.1]; exact upN_e (kG c) (km c) x.toNat) (nm_r em ?_)⟩
      rw [ep]
      exact f
    · rw [z_2, zI_eq (by omega) (by omega)] at w
      have s5 := s4 w
      have eg : sg o x y = y.toNat := if_neg w
      rw [eg] at f
      refine ⟨im, nm_r (e' := fun j => zI (upN (kG c) (km c) y.toNat j : Int)) (by rw [z_byte (by omega), cm, z_nat s5.1]; exact upN_e (kG c) (km c) y.toNat) (nm_r em ?_)⟩
      rw [ep]
      exact f
  · rw [z_3, zI_lt (by omega) (by omega)] at e
    exact hf (by omega)
theorem xw_statement {c : Cf} (h : OK c) {o d x y : Int} (ho : -2147483648 ≤ o ∧ o ≤ 2147483647) (hd : -2147483648 ≤ d ∧ d ≤ 2147483647) (hx : -2147483648 ≤ x ∧ x ≤ 2147483647) (hy : -2147483648 ≤ y ∧ y ≤ 2147483647)
    (post : Int32 → SX → Prop) (kn : Int32) (T : Int64) (lo hi : Int32) (M : Nat → Int32)
    (hb : ¬ SA o d x y → post (zI (-1)) (XS c kn T lo hi M)) (hf : SA o d x y → ¬ km c < 3 → post (zI (-2)) (XS c kn T lo hi M)) (h1 : SA o d x y → km c < 3 → post (zI (km c)) (XS (kst c o.toNat d.toNat x.toNat (sg o x y) (sy o y)) 0 T lo hi M)) :
    wpX_statement post (XS c kn T lo hi M) (zI o) (zI d) (zI x) (zI y) := by
  refine br_c (fun e => ?_) (fun e1 => br_c (fun e => ?_) (fun e2 => ?_))
  · rw [z_0, zI_lt ho (by omega)] at e
    exact hb (fun s => by have := s.1; omega)
  · rw [z_2, zI_lt (by omega) ho] at e
    exact hb (fun s => by have := s.1; omega)
  rw [z_0, zI_lt ho (by omega)] at e1
  rw [z_2, zI_lt (by omega) ho] at e2
  refine xw_isA hd _ ?_
  refine zB_br (fun z => hb (fun s => z s.2.1)) (fun zd => ?_)
  refine xw_isA hx _ ?_
  refine zB_br (fun z => hb (fun s => z s.2.2.1)) (fun zx => br_c (fun w => ?_) (fun w => ?_))
  · rw [z_2, zI_eq ho (by omega)] at w
    have s : SA o d x y := ⟨by omega, zd, zx, fun q => absurd w q⟩
    exact xw_s38 h s post kn T lo hi M (hf s) (h1 s)
  · rw [z_2, zI_eq ho (by omega)] at w
    refine xw_isA hy _ ?_
    refine zB_br (fun z => hb (fun s => z (s.2.2.2 w))) (fun zy => ?_)
    have s : SA o d x y := ⟨by omega, zd, zx, fun _ => zy⟩
    exact xw_s38 h s post kn T lo hi M (hf s) (h1 s)
theorem yw_s41 {c : Cf} (h : OK c) {o d x y : Int} (s : SA o d x y) (post : Int32 → SY → Prop) (M near : Nat → Int32)
    (hf : ¬ km c < 3 → post (zI (-2)) (YS c M near)) (h1 : km c < 3 → post (zI (km c)) (YS (kst c o.toNat d.toNat x.toNat (sg o x y) (sy o y)) M near)) :
    wY_statement_41 post (zI o) (zI d) (zI x) (zI y) (zI (kN c)) (zI (km c)) (zI (kP c)) (zI (kQ c)) (zI (kR c)) (zI (kS c)) M (jA c) (jB c) (jC c) (jO c) (jD c) (jL c) (jY c) near := by
  have hm := (OK_n h).2.2
  obtain ⟨s1, s2, s3, s4⟩ := s
  refine br_c (fun e => ?_) (fun e => ?_)
  · rw [z_3, zI_lt (by omega) (by omega)] at e
    have f := h1 (by omega)
    have im : vp_in (zI (km c : Int)) 3 := zI_in (by omega) (by omega)
    have cm : (zI (km c : Int)).toNatClampNeg = km c := zI_cl (by omega)
    rw [cm]
    refine ⟨im, nm_r (e' := fun j => zI (upN (kO c) (km c) o.toNat j : Int)) (by rw [z_nat s1.1]; exact upN_e (kO c) (km c) o.toNat) ⟨im, nm_r (e' := fun j => zI (upN (kD c) (km c) d.toNat j : Int)) (by rw [z_nat s2.1]; exact upN_e (kD c) (km c) d.toNat) ⟨im, nm_r (e' := fun j => zI (upN (kL c) (km c) x.toNat j : Int)) (by rw [z_nat s3.1]; exact upN_e (kL c) (km c) x.toNat) ?_⟩⟩⟩
    have em : zI (km c : Int) + 1 = zI ((km c + 1 : Nat) : Int) := by rw [z_1, zI_add]; rfl
    have ep : zI ((km c + 1 : Nat) : Int) - 1 = zI (km c : Int) := by rw [z_1, zI_sub]; exact congrArg zI (by omega)
    refine br_c (fun w => ?_) (fun w => ?_)
    · rw [z_2, zI_eq (by omega) (by omega)] at w
      have eg : sy o y = 0 := if_pos w
      rw [eg] at f
      refine ⟨im, nm_r (e' := fun j => zI (upN (kY c) (km c) 0 j : Int)) (by rw [cm]; exact upN_e (kY c) (km c) 0) (nm_r em ?_)⟩
      rw [ep]
      exact f
    · rw [z_2, zI_eq (by omega) (by omega)] at w
      have s5 := s4 w
      have eg : sy o y = y.toNat := if_neg w
      rw [eg] at f
      refine ⟨im, nm_r (e' := fun j => zI (upN (kY c) (km c) y.toNat j : Int)) (by rw [cm, z_nat s5.1]; exact upN_e (kY c) (km c) y.toNat) (nm_r em ?_)⟩
      rw [ep]
      exact f
  · rw [z_3, zI_lt (by omega) (by omega)] at e
    exact hf (by omega)
theorem yw_statement {c : Cf} (h : OK c) {o d x y : Int} (ho : -2147483648 ≤ o ∧ o ≤ 2147483647) (hd : -2147483648 ≤ d ∧ d ≤ 2147483647) (hx : -2147483648 ≤ x ∧ x ≤ 2147483647) (hy : -2147483648 ≤ y ∧ y ≤ 2147483647)
    (post : Int32 → SY → Prop) (M near : Nat → Int32)
    (hb : ¬ SA o d x y → post (zI (-1)) (YS c M near)) (hf : SA o d x y → ¬ km c < 3 → post (zI (-2)) (YS c M near)) (h1 : SA o d x y → km c < 3 → post (zI (km c)) (YS (kst c o.toNat d.toNat x.toNat (sg o x y) (sy o y)) M near)) :
    wpY_statement post (YS c M near) (zI o) (zI d) (zI x) (zI y) := by
  refine br_c (fun e => ?_) (fun e1 => br_c (fun e => ?_) (fun e2 => ?_))
  · rw [z_0, zI_lt ho (by omega)] at e
    exact hb (fun s => by have := s.1; omega)
  · rw [z_2, zI_lt (by omega) ho] at e
    exact hb (fun s => by have := s.1; omega)
  rw [z_0, zI_lt ho (by omega)] at e1
  rw [z_2, zI_lt (by omega) ho] at e2
  refine yw_named hd _ M near ?_
  refine zB_br (fun z => hb (fun s => z s.2.1)) (fun zd => ?_)
  refine yw_named hx _ M near ?_
  refine zB_br (fun z => hb (fun s => z s.2.2.1)) (fun zx => br_c (fun w => ?_) (fun w => ?_))
  · rw [z_2, zI_eq ho (by omega)] at w
    have s : SA o d x y := ⟨by omega, zd, zx, fun q => absurd w q⟩
    exact yw_s41 h s post M near (hf s) (h1 s)
  · rw [z_2, zI_eq ho (by omega)] at w
    refine yw_named hy _ M near ?_
    refine zB_br (fun z => hb (fun s => z (s.2.2.2 w))) (fun zy => ?_)
    have s : SA o d x y := ⟨by omega, zd, zx, fun _ => zy⟩
    exact yw_s41 h s post M near (hf s) (h1 s)
/-! transform -/
def ktr (c : Cf) (p q r s : Int) : Cf := (kN c, km c, p, q, r, s, kA c, kB c, kC c, kO c, kD c, kL c, kG c, kY c)
def TA (p q r s : Int) : Prop := (-3 ≤ p ∧ p ≤ 3) ∧ (-3 ≤ q ∧ q ≤ 3) ∧ (-3 ≤ r ∧ r ≤ 3) ∧ (-3 ≤ s ∧ s ≤ 3) ∧ (p * s - q * r = 1 ∨ p * s - q * r = -1)
theorem OK_tr {c : Cf} (h : OK c) {p q r s : Int} (t : TA p q r s) : OK (ktr c p q r s) := ⟨h.1, t, h.2.2.1, h.2.2.2⟩
theorem KG_tr {c : Cf} {p q r s : Int} {kn : Int32} {T : Int64} (h : KG c kn T) : KG (ktr c p q r s) kn T := h
theorem xw_transform {c : Cf} {p q r s : Int} (hp : -2147483648 ≤ p ∧ p ≤ 2147483647) (hq : -2147483648 ≤ q ∧ q ≤ 2147483647) (hr : -2147483648 ≤ r ∧ r ≤ 2147483647) (hs : -2147483648 ≤ s ∧ s ≤ 2147483647)
    (post : Int32 → SX → Prop) (kn : Int32) (T : Int64) (lo hi : Int32) (M : Nat → Int32)
    (h0 : ¬ TA p q r s → post (zI 0) (XS c kn T lo hi M)) (h1 : TA p q r s → post (zI 1) (XS (ktr c p q r s) kn T lo hi M)) :
    wpX_transform post (XS c kn T lo hi M) (zI p) (zI q) (zI r) (zI s) := by
  unfold wpX_transform
  refine xw_isS hp _ ?_
  refine zB_br (fun z => h0 (fun t => z t.1)) (fun z1 => ?_)
  refine xw_isS hq _ ?_
  refine zB_br (fun z => h0 (fun t => z t.2.1)) (fun z2 => ?_)
  refine xw_isS hr _ ?_
  refine zB_br (fun z => h0 (fun t => z t.2.2.1)) (fun z3 => ?_)
  refine xw_isS hs _ ?_
  refine zB_br (fun z => h0 (fun t => z t.2.2.2.1)) (fun z4 => ?_)
  have b1 := z_mb (a := p) (b := s) 3 3 z1 z4
  have b2 := z_mb (a := q) (b := r) 3 3 z2 z3
  refine nm_r (e' := zI (p * s - q * r)) (by rw [zI_mul, zI_mul, zI_sub]) ?_
  refine br_c (fun e => ?_) (fun e => br_c (fun e1 => ?_) (fun e1 => ?_))
  · rw [z_1, zI_eq (by omega) (by omega)] at e
    exact h1 ⟨z1, z2, z3, z4, Or.inl e⟩
  · rw [z_m1, zI_eq (by omega) (by omega)] at e1
    exact h1 ⟨z1, z2, z3, z4, Or.inr e1⟩
  · rw [z_1, zI_eq (by omega) (by omega)] at e
    rw [z_m1, zI_eq (by omega) (by omega)] at e1
    exact h0 (fun t => t.2.2.2.2.elim e e1)
theorem yw_transform {c : Cf} {p q r s : Int} (hp : -2147483648 ≤ p ∧ p ≤ 2147483647) (hq : -2147483648 ≤ q ∧ q ≤ 2147483647) (hr : -2147483648 ≤ r ∧ r ≤ 2147483647) (hs : -2147483648 ≤ s ∧ s ≤ 2147483647)
    (post : Int32 → SY → Prop) (M near : Nat → Int32)
    (h0 : ¬ TA p q r s → post (zI 0) (YS c M near)) (h1 : TA p q r s → post (zI 1) (YS (ktr c p q r s) M near)) :
    wpY_transform post (YS c M near) (zI p) (zI q) (zI r) (zI s) := by
  unfold wpY_transform
  refine yw_small hp _ M near ?_
  refine zB_br (fun z => h0 (fun t => z t.1)) (fun z1 => ?_)
  refine yw_small hq _ M near ?_
  refine zB_br (fun z => h0 (fun t => z t.2.1)) (fun z2 => ?_)
  refine yw_small hr _ M near ?_
  refine zB_br (fun z => h0 (fun t => z t.2.2.1)) (fun z3 => ?_)
  refine yw_small hs _ M near ?_
  refine zB_br (fun z => h0 (fun t => z t.2.2.2.1)) (fun z4 => ?_)
  have b1 := z_mb (a := p) (b := s) 3 3 z1 z4
  have b2 := z_mb (a := q) (b := r) 3 3 z2 z3
  rw [zI_mul, zI_mul, zI_sub]
  refine br_c (fun e => ?_) (fun e => br_c (fun e1 => ?_) (fun e1 => ?_))
  · rw [z_1, zI_eq (by omega) (by omega)] at e
    exact h1 ⟨z1, z2, z3, z4, Or.inl e⟩
  · rw [z_m1, zI_eq (by omega) (by omega)] at e1
    exact h1 ⟨z1, z2, z3, z4, Or.inr e1⟩
  · rw [z_1, zI_eq (by omega) (by omega)] at e
    rw [z_m1, zI_eq (by omega) (by omega)] at e1
    exact h0 (fun t => t.2.2.2.2.elim e e1)
end
section
/-! the relation, and what is owed -/
/-- both states are those of one abstract state; the distances, once known, are the true ones -/
def i_Rel (k : Nat) (u : SX) (v : SY) : Prop := ∃ (c : Cf) (kn : Int32) (T : Int64) (lo hi : Int32) (M near : Nat → Int32), OK c ∧ KG c kn T ∧ u = XS c kn T lo hi M ∧ v = YS c M near
theorem i_up {k : Nat} {u : SX} {v : SY} (h : i_Rel k u v) : i_Rel (k + 5) u v := h
def k0c (n : Nat) : Cf := (n, 0, 1, 0, 0, 1, fun _ => 0, fun _ => 0, fun _ => 0, fun _ => 0, fun _ => 0, fun _ => 0, fun _ => 0, fun _ => 0)
theorem OK_0 {n : Nat} (h : 1 ≤ n ∧ n ≤ 5) : OK (k0c n) := by
  have a1 : -3 ≤ (1 : Int) ∧ (1 : Int) ≤ 3 := by decide
  have a0 : -3 ≤ (0 : Int) ∧ (0 : Int) ≤ 3 := by decide
  have b0 : -3 ≤ (0 : Int) ∧ (0 : Int) ≤ 5 := by decide
  have d0 : 0 ≤ (0 : Int) ∧ (0 : Int) ≤ 31 := by decide
  have n2 : (0 : Nat) ≤ 2 := by decide
  have n6 : (0 : Nat) < 6 := by decide
  refine ⟨⟨h.1, h.2, Nat.zero_le _⟩, ⟨a1, a0, a0, a1, Or.inl rfl⟩, fun k => ⟨b0, b0, d0, fun i j _ _ _ _ => ?_⟩, fun t => ⟨n2, n6, n6, n6, n6, fun _ => rfl, fun _ => rfl⟩⟩
  show 0 ≤ (0 : Int) * i + 0 * j + 0 ∧ (0 : Int) * i + 0 * j + 0 ≤ 31
  omega
theorem i_0 {n : Nat} (h : 1 ≤ n ∧ n ≤ 5) (k : Nat) : i_Rel k (zI n, 0, 1, 0, 0, 1, 0, 0, 0, 0, (fun _ => 0), (fun _ => 0), (fun _ => 0), (fun _ => 0), (fun _ => 0), (fun _ => 0), (fun _ => 0), (fun _ => 0)) (zI n, 0, 1, 0, 0, 1, (fun _ => 0), (fun _ => 0), (fun _ => 0), (fun _ => 0), (fun _ => 0), (fun _ => 0), (fun _ => 0), (fun _ => 0), (fun _ => 0)) :=
  ⟨k0c n, 0, 0, 0, 0, fun _ => 0, fun _ => 0, OK_0 h, Or.inl rfl, rfl, rfl⟩
theorem i_vc0 (k0 : Int32) : wpX_init (fun u => wpY_init (fun v => i_Rel 1 u v) k0) k0 := by
  obtain ⟨a, ha, rfl⟩ := zI_ofB k0
  refine br_c (fun e => br_c (fun e1 => ?_) (fun e1 => ?_)) (fun e => ?_)
  · have e' := e
    have e1' := e1
    rw [z_1, zI_le (by omega) ha] at e'
    rw [z_5, zI_le ha (by omega)] at e1'
    obtain ⟨n, rfl⟩ := Int.eq_ofNat_of_zero_le (show 0 ≤ a by omega)
    exact br_t e (br_t e1 (i_0 (by omega) 1))
  · exact br_t e (br_f e1 (i_0 (n := 5) (by decide) 1))
  · exact br_f e (i_0 (n := 1) (by decide) 1)
theorem i_vc_access {k : Nat} {u : SX} {v : SY} (I : i_Rel k u v) (hk : k + 5 ≤ 2561) (v1 : Int32) (v2 : Int32) (v3 : Int32) (v4 : Int32) : wpX_access (fun r u' => wpY_access (fun r' v' => r' = r ∧ i_Rel (k + 5) u' v') v v1 v2 v3 v4) u v1 v2 v3 v4 := by
  obtain ⟨c, kn, T, lo, hi, M, near, h, hK, rfl, rfl⟩ := I
  obtain ⟨a1, h1, rfl⟩ := zI_ofB v1
  obtain ⟨a2, h2, rfl⟩ := zI_ofB v2
  obtain ⟨a3, h3, rfl⟩ := zI_ofB v3
  obtain ⟨a4, h4, rfl⟩ := zI_ofB v4
  refine xw_access h h1 h2 h3 h4 _ kn T lo hi M (fun n => ?_) (fun y => ?_)
  · exact yw_access h h1 h2 h3 h4 _ M near (fun _ => ⟨rfl, c, kn, T, lo, hi, M, near, h, hK, rfl, rfl⟩) (fun y => absurd y n)
  · exact yw_access h h1 h2 h3 h4 _ M near (fun n => absurd y n) (fun _ => ⟨rfl, _, 0, T, lo, hi, M, near, OK_ac h y, Or.inl rfl, rfl, rfl⟩)
theorem i_vc_statement {k : Nat} {u : SX} {v : SY} (I : i_Rel k u v) (hk : k + 5 ≤ 2561) (v1 : Int32) (v2 : Int32) (v3 : Int32) (v4 : Int32) : wpX_statement (fun r u' => wpY_statement (fun r' v' => r' = r ∧ i_Rel (k + 5) u' v') v v1 v2 v3 v4) u v1 v2 v3 v4 := by
  obtain ⟨c, kn, T, lo, hi, M, near, h, hK, rfl, rfl⟩ := I
  obtain ⟨a1, h1, rfl⟩ := zI_ofB v1
  obtain ⟨a2, h2, rfl⟩ := zI_ofB v2
  obtain ⟨a3, h3, rfl⟩ := zI_ofB v3
  obtain ⟨a4, h4, rfl⟩ := zI_ofB v4
  refine xw_statement h h1 h2 h3 h4 _ kn T lo hi M (fun n => ?_) (fun y1 n => ?_) (fun y1 y2 => ?_)
  · exact yw_statement h h1 h2 h3 h4 _ M near (fun _ => ⟨rfl, c, kn, T, lo, hi, M, near, h, hK, rfl, rfl⟩) (fun y => absurd y n) (fun y => absurd y n)
  · exact yw_statement h h1 h2 h3 h4 _ M near (fun n => absurd y1 n) (fun _ _ => ⟨rfl, c, kn, T, lo, hi, M, near, h, hK, rfl, rfl⟩) (fun _ y => absurd y n)
  · exact yw_statement h h1 h2 h3 h4 _ M near (fun n => absurd y1 n) (fun _ n => absurd y2 n) (fun _ _ => ⟨rfl, _, 0, T, lo, hi, M, near, OK_st h y2 y1, Or.inl rfl, rfl, rfl⟩)
def kdr (c : Cf) : Cf := (kN c, km c - 1, kP c, kQ c, kR c, kS c, kA c, kB c, kC c, kO c, kD c, kL c, kG c, kY c)
theorem i_vc_drop {k : Nat} {u : SX} {v : SY} (I : i_Rel k u v) (hk : k + 5 ≤ 2561) : wpX_drop (fun r u' => wpY_drop (fun r' v' => r' = r ∧ i_Rel (k + 5) u' v') v) u := by
  obtain ⟨c, kn, T, lo, hi, M, near, h, hK, rfl, rfl⟩ := I
  have hm := OK_n h
  refine br_c (fun e => ?_) (fun e => ?_)
  · exact br_t e ⟨rfl, c, kn, T, lo, hi, M, near, h, hK, rfl, rfl⟩
  · have e' := e
    rw [z_0, zI_eq (by omega) (by omega)] at e'
    have em : zI (km c : Int) - 1 = zI ((km c - 1 : Nat) : Int) := by rw [z_1, zI_sub]; exact congrArg zI (by omega)
    refine nm_r em (br_f e (nm_r em ⟨rfl, kdr c, 0, T, lo, hi, M, near, ⟨⟨hm.1, hm.2.1, ?_⟩, h.2⟩, Or.inl rfl, rfl, rfl⟩))
    show km c - 1 ≤ 3
    omega
theorem i_vc_transform {k : Nat} {u : SX} {v : SY} (I : i_Rel k u v) (hk : k + 5 ≤ 2561) (v1 : Int32) (v2 : Int32) (v3 : Int32) (v4 : Int32) : wpX_transform (fun r u' => wpY_transform (fun r' v' => r' = r ∧ i_Rel (k + 5) u' v') v v1 v2 v3 v4) u v1 v2 v3 v4 := by
  obtain ⟨c, kn, T, lo, hi, M, near, h, hK, rfl, rfl⟩ := I
  obtain ⟨a1, h1, rfl⟩ := zI_ofB v1
  obtain ⟨a2, h2, rfl⟩ := zI_ofB v2
  obtain ⟨a3, h3, rfl⟩ := zI_ofB v3
  obtain ⟨a4, h4, rfl⟩ := zI_ofB v4
  refine xw_transform h1 h2 h3 h4 _ kn T lo hi M (fun n => ?_) (fun y => ?_)
  · exact yw_transform h1 h2 h3 h4 _ M near (fun _ => ⟨rfl, c, kn, T, lo, hi, M, near, h, hK, rfl, rfl⟩) (fun y => absurd y n)
  · exact yw_transform h1 h2 h3 h4 _ M near (fun n => absurd y n) (fun _ => ⟨rfl, _, kn, T, lo, hi, M, near, OK_tr h y, KG_tr hK, rfl, rfl⟩)
theorem i_vc_poke {k : Nat} {u : SX} {v : SY} (I : i_Rel k u v) (hk : k + 5 ≤ 2561) (v1 : Int32) (v2 : Int32) : wpX_poke (fun r u' => wpY_poke (fun r' v' => r' = r ∧ i_Rel (k + 5) u' v') v v1 v2) u v1 v2 := by
  obtain ⟨c, kn, T, lo, hi, M, near, h, hK, rfl, rfl⟩ := I
  obtain ⟨a, ha, rfl⟩ := zI_ofB v1
  have hL : ∀ {P : Prop}, (¬ zI a < 0 → zI a ≤ 31 → P) → (0 ≤ a ∧ a ≤ 31) → P := fun g z => g (by rw [z_0, zI_lt ha (by omega)]; omega) (by rw [z_31, zI_le ha (by omega)]; omega)
  unfold wpX_poke
  refine xw_isC ha _ ?_
  rw [z_0]
  refine zB_br (fun z => ?_) (fun z => ?_)
  · refine br_c (fun e => ?_) (fun e => br_c (fun e1 => ?_) (fun e1 => ?_))
    · exact ⟨rfl, c, kn, T, lo, hi, M, near, h, hK, rfl, rfl⟩
    · rw [z_0, zI_lt ha (by omega)] at e
      rw [z_31, zI_le ha (by omega)] at e1
      exact absurd ⟨by omega, by omega⟩ z
    · exact ⟨rfl, c, kn, T, lo, hi, M, near, h, hK, rfl, rfl⟩
  · have i32 : vp_in (zI a) 32 := zI_inI (by omega) (by omega)
    refine ⟨i32, nm_e ?_⟩
    exact hL (fun g1 g2 => br_f g1 (br_t g2 ⟨i32, nm_e ⟨rfl, c, kn, T, lo, hi, _, near, h, hK, rfl, rfl⟩⟩)) z
theorem i_vc_peek {k : Nat} {u : SX} {v : SY} (I : i_Rel k u v) (hk : k + 5 ≤ 2561) (v1 : Int32) : wpX_peek (fun r => wpY_peek (fun r' => r' = r ∧ i_Rel (k + 5) u v) v v1) u v1 := by
  obtain ⟨c, kn, T, lo, hi, M, near, h, hK, rfl, rfl⟩ := I
  obtain ⟨a, ha, rfl⟩ := zI_ofB v1
  have R : i_Rel (k + 5) (XS c kn T lo hi M) (YS c M near) := ⟨c, kn, T, lo, hi, M, near, h, hK, rfl, rfl⟩
  unfold wpX_peek
  refine xw_isC ha _ ?_
  rw [z_0]
  refine zB_br (fun z => ?_) (fun z => ?_)
  · refine br_c (fun e => ?_) (fun e => br_c (fun e1 => ?_) (fun e1 => ?_))
    · exact ⟨rfl, R⟩
    · exact ⟨rfl, R⟩
    · rw [z_0, zI_lt ha (by omega)] at e
      rw [z_31, zI_lt (by omega) ha] at e1
      exact absurd ⟨by omega, by omega⟩ z
  · have i32 : vp_in (zI a) 32 := zI_inI (by omega) (by omega)
    refine ⟨i32, br_f ?_ (br_f ?_ ⟨i32, rfl, R⟩)⟩
    · rw [z_0, zI_lt ha (by omega)]; omega
    · rw [z_31, zI_lt (by omega) ha]; omega
theorem i_vc_legal {k : Nat} {u : SX} {v : SY} (I : i_Rel k u v) (hk : k + 5 ≤ 2561) : wpX_legal (fun r u' => wpY_legal (fun r' v' => r' = r ∧ i_Rel (k + 5) u' v') v) u := by
  obtain ⟨c, kn, T, lo, hi, M, near, h, hK, rfl, rfl⟩ := I
  refine xw_legal h _ kn T lo hi M hK (fun kn' T' hT => ?_)
  exact yw_legal h _ M near (fun near' => ⟨(zB_c (lg_Y h)).symm, c, kn', T', lo, hi, M, near', h, Or.inr hT, rfl, rfl⟩)
theorem i_vc_distances {k : Nat} {u : SX} {v : SY} (I : i_Rel k u v) (hk : k + 5 ≤ 2561) : wpX_distances (fun r u' => wpY_distances (fun r' v' => r' = r ∧ i_Rel (k + 5) u' v') v) u := by
  obtain ⟨c, kn, T, lo, hi, M, near, h, hK, rfl, rfl⟩ := I
  refine xw_distances h _ kn T lo hi M hK (fun kn' T' hT => ?_)
  exact yw_distances h _ M near (fun near' => ⟨by rw [cn_Y h hT], c, kn', T', lo, hi, M, near', h, Or.inr hT, rfl, rfl⟩)
theorem i_vc_distance {k : Nat} {u : SX} {v : SY} (I : i_Rel k u v) (hk : k + 5 ≤ 2561) (v1 : Int32) (v2 : Int32) : wpX_distance (fun r u' => wpY_distance (fun r' v' => r' = r ∧ i_Rel (k + 5) u' v') v v1 v2) u v1 v2 := by
  obtain ⟨c, kn, T, lo, hi, M, near, h, hK, rfl, rfl⟩ := I
  obtain ⟨a1, h1, rfl⟩ := zI_ofB v1
  obtain ⟨a2, h2, rfl⟩ := zI_ofB v2
  refine xw_distance h h1 h2 _ kn T lo hi M hK (fun kn' T' hK' => ?_)
  exact yw_distance h h1 h2 _ M near (fun near' => ⟨(zB_c (XD_Y h)).symm, c, kn', T', lo, hi, M, near', h, hK', rfl, rfl⟩)
theorem i_vc_innerFree {k : Nat} {u : SX} {v : SY} (I : i_Rel k u v) (hk : k + 5 ≤ 2561) : wpX_innerFree (fun r u' => wpY_innerFree (fun r' v' => r' = r ∧ i_Rel (k + 5) u' v') v) u := by
  obtain ⟨c, kn, T, lo, hi, M, near, h, hK, rfl, rfl⟩ := I
  refine xw_inner h _ kn T lo hi M hK (fun kn' T' hT => ?_)
  exact yw_inner h _ M near (fun near' => ⟨(zB_c (ad_Y h True)).symm, c, kn', T', lo, hi, M, near', h, Or.inr hT, rfl, rfl⟩)
theorem i_vc_outerFree {k : Nat} {u : SX} {v : SY} (I : i_Rel k u v) (hk : k + 5 ≤ 2561) : wpX_outerFree (fun r u' => wpY_outerFree (fun r' v' => r' = r ∧ i_Rel (k + 5) u' v') v) u := by
  obtain ⟨c, kn, T, lo, hi, M, near, h, hK, rfl, rfl⟩ := I
  refine xw_outer h _ kn T lo hi M hK (fun kn' T' hT => ?_)
  exact yw_outer h _ M near (fun near' => ⟨(zB_c (ad_Y h False)).symm, c, kn', T', lo, hi, M, near', h, Or.inr hT, rfl, rfl⟩)
theorem i_vc_run {k : Nat} {u : SX} {v : SY} (I : i_Rel k u v) (hk : k + 5 ≤ 2561) : wpX_run (fun r u' => wpY_run (fun r' v' => r' = r ∧ i_Rel (k + 5) u' v') v) u := by
  obtain ⟨c, kn, T, lo, hi, M, near, h, hK, rfl, rfl⟩ := I
  refine xw_run h _ kn T lo hi M hK (fun n kn' T' hT => ?_) (fun y kn' T' lo' hi' hT => ?_)
  · exact yw_run h _ M near (fun _ near' => ⟨rfl, c, kn', T', lo, hi, M, near', h, Or.inr hT, rfl, rfl⟩) (fun y => absurd y n)
  · exact yw_run h _ M near (fun n => absurd y n) (fun _ near' => ⟨rfl, c, kn', T', lo', hi', _, near', h, Or.inr hT, rfl, rfl⟩)
theorem i_vc_iteration {k : Nat} {u : SX} {v : SY} (I : i_Rel k u v) (hk : k + 5 ≤ 2561) (v1 : Int32) : wpX_iteration (fun r u' => wpY_iteration (fun r' => r' = r ∧ i_Rel (k + 5) u' v) v v1) u v1 := by
  obtain ⟨c, kn, T, lo, hi, M, near, h, hK, rfl, rfl⟩ := I
  obtain ⟨a, ha, rfl⟩ := zI_ofB v1
  have R : ∀ lo hi, i_Rel (k + 5) (XS c kn T lo hi M) (YS c M near) := fun lo hi => ⟨c, kn, T, lo, hi, M, near, h, hK, rfl, rfl⟩
  have hKK := eo_K (OK_N h)
  by_cases z : 0 ≤ a ∧ a < (kN c * kN c : Nat)
  · obtain ⟨b, rfl⟩ := Int.eq_ofNat_of_zero_le z.1
    refine xw_iteration h (by omega) _ kn T lo hi M (fun e lo' hi' he hr => ?_)
    refine yw_iteration h (by omega) _ M near (fun f hf hfr => ⟨?_, R lo' hi'⟩) (fun n => absurd (by rw [hr]) (n e he))
    have : f = e := rk_inj h hf he (by omega)
    rw [this]
  · have hy : wpY_iteration (fun r' => r' = zI (-1) ∧ i_Rel (k + 5) (XS c kn T lo hi M) (YS c M near)) (YS c M near) (zI a) := by
      refine yw_iteration h ha _ M near (fun f hf hfr => ?_) (fun _ => ⟨rfl, R lo hi⟩)
      have := rk_b hf
      omega
    refine br_c (fun e => hy) (fun e => br_c (fun e1 => ?_) (fun e1 => hy))
    rw [z_0, zI_lt ha (by omega)] at e
    rw [zI_mul, zI_lt ha (by omega)] at e1
    omega
theorem i_vc_rows {k : Nat} {u : SX} {v : SY} (I : i_Rel k u v) (hk : k + 5 ≤ 2561) : wpX_rows (fun r u' => wpY_rows (fun r' => r' = r ∧ i_Rel (k + 5) u' v) v) u := by
  obtain ⟨c, kn, T, lo, hi, M, near, h, hK, rfl, rfl⟩ := I
  refine xw_rows h _ kn T lo hi M (fun lo' hi' => ?_)
  refine yw_rows h _ M near ⟨?_, c, kn, T, lo', hi', M, near, h, hK, rfl, rfl⟩
  rw [rows_e h _ (Nat.le_refl _)]
theorem i_vc_digest {k : Nat} {u : SX} {v : SY} (I : i_Rel k u v) (hk : k + 5 ≤ 2561) : wpX_digest (fun r => wpY_digest (fun r' => r' = r ∧ i_Rel (k + 5) u v) v) u := by
  obtain ⟨c, kn, T, lo, hi, M, near, h, hK, rfl, rfl⟩ := I
  refine xw_digest _ kn T lo hi M ?_
  exact yw_digest _ M near ⟨rfl, c, kn, T, lo, hi, M, near, h, hK, rfl, rfl⟩
end
