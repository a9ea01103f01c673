/-! small numbers -/
def i_ (n : Nat) : Int32 := Int32.ofNat n
theorem i_lit (n : Nat) : (OfNat.ofNat n : Int32) = i_ n := rfl
theorem i_toInt {n : Nat} (h : n < 2147483648) : (i_ n).toInt = n := Int32.toInt_ofNat_of_lt h
theorem i_add (a b : Nat) : i_ a + i_ b = i_ (a + b) := (Int32.ofNat_add a b).symm
theorem i_mul (a b : Nat) : i_ a * i_ b = i_ (a * b) := (Int32.ofNat_mul a b).symm
theorem i_sub {a b : Nat} (h : b ≤ a) : i_ a - i_ b = i_ (a - b) := by
  have e : i_ a = i_ (a - b) + i_ b := by rw [i_add, Nat.sub_add_cancel h]
  rw [e]
  exact Int32.add_sub_cancel _ _
theorem i_lt {a b : Nat} (ha : a < 2147483648) (hb : b < 2147483648) : (i_ a < i_ b) ↔ a < b := by
  rw [Int32.lt_iff_toInt_lt, i_toInt ha, i_toInt hb]
  omega
theorem i_le {a b : Nat} (ha : a < 2147483648) (hb : b < 2147483648) : (i_ a ≤ i_ b) ↔ a ≤ b := by
  rw [Int32.le_iff_toInt_le, i_toInt ha, i_toInt hb]
  omega
theorem i_inj {a b : Nat} (ha : a < 2147483648) (hb : b < 2147483648) : (i_ a = i_ b) ↔ a = b := by
  constructor
  · intro h
    have := congrArg Int32.toInt h
    rw [i_toInt ha, i_toInt hb] at this
    omega
  · intro h
    rw [h]
theorem i_cl {a : Nat} (ha : a < 2147483648) : (i_ a).toNatClampNeg = a := by
  unfold Int32.toNatClampNeg
  rw [i_toInt ha]
  rfl
theorem i_nn {a : Nat} (ha : a < 2147483648) : ¬ i_ a < 0 := by
  rw [Int32.lt_iff_toInt_lt, i_toInt ha]
  show ¬ (a : Int) < 0
  omega
theorem i_of {x : Int32} (h : ¬ x < 0) : x = i_ x.toNatClampNeg ∧ x.toNatClampNeg < 2147483648 := by
  have h1 : ¬ x.toInt < 0 := fun k => h (Int32.lt_iff_toInt_lt.mpr k)
  have h2 : x.toInt < 2147483648 := Int32.toInt_lt x
  have h3 : (x.toNatClampNeg : Int) = x.toInt := by
    unfold Int32.toNatClampNeg
    omega
  refine ⟨?_, by omega⟩
  apply Int32.toInt_inj.mp
  rw [i_toInt (by omega), h3]
theorem i_neg1 {a : Nat} (ha : a < 2147483648) : ¬ (i_ a = -1) := by
  intro h
  have := congrArg Int32.toInt h
  rw [i_toInt ha] at this
  have e : (-1 : Int32).toInt = -1 := by decide
  omega
theorem i_div {a b : Nat} (ha : a < 2147483648) (hb : b < 2147483648) : i_ a / i_ b = i_ (a / b) := by
  apply Int32.toInt_inj.mp
  have h1 : a / b < 2147483648 := Nat.lt_of_le_of_lt (Nat.div_le_self _ _) ha
  rw [i_toInt h1, Int32.toInt_div, i_toInt ha, i_toInt hb]
  rw [show (a : Int).tdiv (b : Int) = ((a / b : Nat) : Int) from rfl]
  generalize a / b = c at h1
  rw [Int.bmod_eq_of_le (by omega) (by omega)]
theorem i_and {a b : Nat} (ha : a < 2147483648) (hb : b < 2147483648) : i_ a &&& i_ b = i_ (a &&& b) := by
  apply Int32.toBitVec_inj.mp
  apply BitVec.eq_of_toNat_eq
  show ((BitVec.ofNat 32 a) &&& (BitVec.ofNat 32 b)).toNat = (BitVec.ofNat 32 (a &&& b)).toNat
  rw [BitVec.toNat_and, BitVec.toNat_ofNat, BitVec.toNat_ofNat, BitVec.toNat_ofNat]
  have : a &&& b ≤ a := Nat.and_le_left
  rw [Nat.mod_eq_of_lt (by omega), Nat.mod_eq_of_lt (by omega), Nat.mod_eq_of_lt (by omega)]
theorem i_shr {a k : Nat} (ha : a < 2147483648) (hk : k < 32) : i_ a >>> i_ k = i_ (a / 2 ^ k) := by
  apply Int32.toBitVec_inj.mp
  show BitVec.sshiftRight' (BitVec.ofNat 32 a) ((BitVec.ofNat 32 k).smod 32) = BitVec.ofNat 32 (a / 2 ^ k)
  have hm : ((BitVec.ofNat 32 k).smod 32) = BitVec.ofNat 32 k := by
    have h9 : ∀ k, k < 32 → ((BitVec.ofNat 32 k).smod 32) = BitVec.ofNat 32 k := by decide
    exact h9 k hk
  rw [hm]
  show (BitVec.ofNat 32 a).sshiftRight (BitVec.ofNat 32 k).toNat = _
  rw [BitVec.toNat_ofNat, Nat.mod_eq_of_lt (by omega)]
  have hmsb : (BitVec.ofNat 32 a).msb = false := by
    rw [BitVec.msb_eq_decide, BitVec.toNat_ofNat]
    simp
    omega
  rw [BitVec.sshiftRight_eq_of_msb_false hmsb]
  apply BitVec.eq_of_toNat_eq
  rw [BitVec.toNat_ushiftRight, BitVec.toNat_ofNat, BitVec.toNat_ofNat, Nat.shiftRight_eq_div_pow]
  have : a / 2 ^ k ≤ a := Nat.div_le_self _ _
  rw [Nat.mod_eq_of_lt (by omega), Nat.mod_eq_of_lt (by omega)]
