/-! J, 1: whole numbers as Int; one judgement for a walk; rows of the pure instructions -/
def jI (z : Int) : Int32 := Int32.ofInt z
abbrev jr (z : Int) : Prop := -2147483648 ≤ z ∧ z < 2147483648
def jB (b : Bool) : Int := if b then 1 else 0
theorem jI_toInt {z : Int} (h : jr z) : (jI z).toInt = z := Int32.toInt_ofInt_of_le (by have := h.1; omega) (by have := h.2; omega)
theorem jI_of (x : Int32) : jI x.toInt = x := Int32.ofInt_toInt x
theorem jI_rng (x : Int32) : jr x.toInt := ⟨by have := Int32.le_toInt x; omega, by have := Int32.toInt_lt x; omega⟩
theorem jI_ex (x : Int32) : ∃ z : Int, x = jI z ∧ jr z := ⟨x.toInt, (jI_of x).symm, jI_rng x⟩
theorem jI_inj {a b : Int} (ha : jr a) (hb : jr b) : jI a = jI b ↔ a = b := ⟨fun h => by have := congrArg Int32.toInt h; rwa [jI_toInt ha, jI_toInt hb] at this, fun h => by rw [h]⟩
theorem jI_le {a b : Int} (ha : jr a) (hb : jr b) : jI a ≤ jI b ↔ a ≤ b := by rw [Int32.le_iff_toInt_le, jI_toInt ha, jI_toInt hb]
theorem jI_lt {a b : Int} (ha : jr a) (hb : jr b) : jI a < jI b ↔ a < b := by rw [Int32.lt_iff_toInt_lt, jI_toInt ha, jI_toInt hb]
theorem jI_z : (0 : Int32) = jI 0 := rfl
theorem jI_add (a b : Int) : jI a + jI b = jI (a + b) := (Int32.ofInt_add a b).symm
theorem jI_sub (a b : Int) : jI a - jI b = jI (a - b) := (Int32.ofInt_sub a b).symm
theorem jI_mul (a b : Int) : jI a * jI b = jI (a * b) := (Int32.ofInt_mul a b).symm
theorem jI_neg (a : Int) : -jI a = jI (-a) := (Int32.ofInt_neg a).symm
theorem jI_nat (n : Nat) : jI (n : Int) = nI n := Int32.ofInt_eq_ofNat
theorem jI_clamp {z : Int} (h0 : 0 ≤ z) (h : z < 2147483648) : (jI z).toNatClampNeg = z.toNat := Int32.toNatClampNeg_ofInt_of_le (by omega) (by omega)
theorem jI_in {z : Int} {n : Nat} (h0 : 0 ≤ z) (h : z < (n : Int)) (hn : n < 2147483648) : vp_in (jI z) n := by
  intro q
  rcases q with q | q
  · rw [jI_z, jI_lt (by omega) (by omega)] at q; omega
  · rw [jI_clamp h0 (by omega)] at q; omega
theorem jI_ne0 {z : Int} (h : jr z) (h0 : z ≠ 0) : ¬ jI z = 0 := fun q => h0 ((jI_inj h (by omega)).mp q)
theorem jI_div {a b : Int} (h0 : 0 ≤ a) (ha : a < 2147483648) (h1 : 0 < b) (hb : b < 2147483648) : jI a / jI b = jI (a / b) := by
  obtain ⟨m, rfl⟩ := Int.eq_ofNat_of_zero_le h0
  obtain ⟨n, rfl⟩ := Int.eq_ofNat_of_zero_le (Int.le_of_lt h1)
  have e : ((m : Int) / (n : Int)) = ((m / n : Nat) : Int) := rfl
  rw [e, jI_nat, jI_nat, jI_nat]
  exact pk_div (by omega) (by omega) (by omega)
theorem jI_rem {a b : Int} (h0 : 0 ≤ a) (ha : a < 2147483648) (h1 : 0 < b) (hb : b < 2147483648) : jI a - jI a / jI b * jI b = jI (a % b) := by
  rw [jI_div h0 ha h1 hb, jI_mul, jI_sub]
  congr 1
  have := Int.mul_ediv_add_emod a b
  rw [Int.mul_comm] at this
  omega
theorem jB_t : jB true = 1 := rfl
theorem jB_f : jB false = 0 := rfl
theorem jB_01 (b : Bool) : jB b = 0 ∨ jB b = 1 := by cases b <;> simp [jB]
theorem jB_r (b : Bool) : jr (jB b) := by cases b <;> exact ⟨by decide, by decide⟩
theorem jB_0 {b : Bool} : jI (jB b) = 0 ↔ b = false := by
  cases b
  · exact ⟨fun _ => rfl, fun _ => rfl⟩
  · exact ⟨fun h => absurd h (by decide), fun h => by cases h⟩
/-! bits -/
def jandn (a b : Nat) : Nat := a ^^^ (a &&& b)
theorem jandn_test (a b i : Nat) : (jandn a b).testBit i = (a.testBit i && !b.testBit i) := by
  unfold jandn
  rw [Nat.testBit_xor, Nat.testBit_and]
  cases a.testBit i <;> cases b.testBit i <;> rfl
theorem nI_bv (n : Nat) : (nI n).toBitVec = BitVec.ofNat 32 n := rfl
theorem nI_inj_bv {x y : Int32} (h : x.toBitVec = y.toBitVec) : x = y := Int32.toBitVec_inj.mp h
theorem jn_and (a b : Nat) : nI a &&& nI b = nI (a &&& b) := nI_inj_bv (by
  rw [Int32.toBitVec_and, nI_bv, nI_bv, nI_bv]
  exact (BitVec.ofNat_and).symm)
theorem jn_or (a b : Nat) : nI a ||| nI b = nI (a ||| b) := nI_inj_bv (by
  rw [Int32.toBitVec_or, nI_bv, nI_bv, nI_bv]
  exact (BitVec.ofNat_or).symm)
theorem jn_xor (a b : Nat) : nI a ^^^ nI b = nI (a ^^^ b) := nI_inj_bv (by
  rw [Int32.toBitVec_xor, nI_bv, nI_bv, nI_bv]
  exact (BitVec.ofNat_xor).symm)
theorem ji_and (a b : Nat) : jI (a : Int) &&& jI (b : Int) = jI ((a &&& b : Nat) : Int) := by rw [jI_nat, jI_nat, jI_nat, jn_and]
theorem ji_or (a b : Nat) : jI (a : Int) ||| jI (b : Int) = jI ((a ||| b : Nat) : Int) := by rw [jI_nat, jI_nat, jI_nat, jn_or]
theorem ji_xor (a b : Nat) : jI (a : Int) ^^^ jI (b : Int) = jI ((a ^^^ b : Nat) : Int) := by rw [jI_nat, jI_nat, jI_nat, jn_xor]
theorem ji_not (b : Int) : jI b ^^^ jI (-1) = jI (-b - 1) := by
  have e : jI (-1) = (-1 : Int32) := rfl
  rw [e, Int32.xor_neg_one, Int32.not_eq_neg_sub]
  show -jI b - jI 1 = _
  rw [jI_neg, jI_sub]
theorem ji_andn (a b : Nat) : jI (a : Int) &&& jI (-(b : Int) - 1) = jI ((jandn a b : Nat) : Int) := by
  rw [← ji_not]
  have e : jI (-1) = (-1 : Int32) := rfl
  rw [e, Int32.xor_neg_one, jI_nat, jI_nat, jI_nat]
  unfold jandn
  rw [← jn_xor, ← jn_and]
  apply nI_inj_bv
  simp only [Int32.toBitVec_and, Int32.toBitVec_xor, Int32.toBitVec_not]
  apply BitVec.eq_of_getLsbD_eq
  intro i hi
  simp only [BitVec.getLsbD_and, BitVec.getLsbD_xor, BitVec.getLsbD_not, hi, decide_true, Bool.true_and]
  cases (nI a).toBitVec.getLsbD i <;> cases (nI b).toBitVec.getLsbD i <;> rfl
theorem js_amt : ∀ n, n < 32 → (((nI n) &&& 31).toBitVec.smod 32).toNat = n := by decide +kernel
theorem ji_shl {a n : Nat} (hn : n < 32) : jI (a : Int) <<< (jI (n : Int) &&& 31) = jI ((a * 2 ^ n : Nat) : Int) := by
  rw [jI_nat, jI_nat, jI_nat]
  apply nI_inj_bv
  apply BitVec.eq_of_toNat_eq
  rw [pk_shl _ _ n (js_amt n hn), nI_bv, nI_bv, BitVec.toNat_ofNat, BitVec.toNat_ofNat, Nat.mod_mul_mod]
theorem ji_shr {a n : Nat} (ha : a < 2147483648) (hn : n < 32) : jI (a : Int) >>> (jI (n : Int) &&& 31) = jI ((a >>> n : Nat) : Int) := by
  rw [jI_nat, jI_nat, jI_nat, Nat.shiftRight_eq_div_pow]
  exact pk_shrN (by omega) _ n (js_amt n hn)
theorem ji_bit (a n : Nat) : jI ((a >>> n : Nat) : Int) &&& jI 1 = jI (jB (a.testBit n)) := by
  rw [show (1 : Int) = ((1 : Nat) : Int) from rfl, ji_and]
  congr 1
  rw [Nat.testBit, Nat.and_comm 1]
  have h : ((a >>> n) &&& 1) = 0 ∨ ((a >>> n) &&& 1) = 1 := by
    rw [Nat.and_one_is_mod]; omega
  rcases h with h | h <;> rw [h] <;> rfl
theorem jB_and (a b : Bool) : jI (jB a) &&& jI (jB b) = jI (jB (a && b)) := by cases a <;> cases b <;> rfl
theorem jB_or (a b : Bool) : jI (jB a) ||| jI (jB b) = jI (jB (a || b)) := by cases a <;> cases b <;> rfl
theorem jB_xor (a b : Bool) : jI (jB a) ^^^ jI (jB b) = jI (jB (a ^^ b)) := by cases a <;> cases b <;> rfl
theorem ji_char (z : Int) : ((jI z).toUInt32 % 65536).toInt32 = jI (z % 65536) := by
  rw [pk_char]
  have h : (jI z).toBitVec.toNat = (z % 4294967296).toNat := by
    show (BitVec.ofInt 32 z).toNat = _
    rw [BitVec.toNat_ofInt]; rfl
  rw [h, ← jI_nat]
  congr 1
  omega
theorem jn_charI {z : Int} (h0 : 0 ≤ z) (h : z < 65536) : narrow .char (.int (jI z)) = .int (jI z) := by
  obtain ⟨m, rfl⟩ := Int.eq_ofNat_of_zero_le h0
  rw [jI_nat]
  exact (pk_charN (by omega)).1
theorem jn_charF {z : Int} (h0 : 0 ≤ z) (h : z < 65536) : fits .char (.int (jI z)) = true := by
  obtain ⟨m, rfl⟩ := Int.eq_ofNat_of_zero_le h0
  rw [jI_nat]
  exact (pk_charN (by omega)).2
theorem jn_bool (b : Bool) : narrow .boolean (.int (jI (jB b))) = .int (jI (jB b)) := by cases b <;> rfl
theorem jn_boolF (b : Bool) : fits .boolean (.int (jI (jB b))) = true := by cases b <;> rfl
