set_option maxRecDepth 10000
/-! longs as numbers; names -/
theorem tbnL (a : Int) : ((Int64.ofInt a).toBitVec.toNat : Int) = a % 18446744073709551616 := by
  show ((BitVec.ofInt 64 a).toNat : Int) = _
  rw [BitVec.toNat_ofInt]
  omega
theorem L_toInt {x : Int64} {n : Nat} (h : x.toBitVec.toNat = n) (hn : n < 9223372036854775808) : x.toInt = n := by
  show x.toBitVec.toInt = n
  rw [BitVec.toInt_eq_toNat_of_lt (by omega), h]
theorem lAnd_255 (a : Int) : lAnd a 255 = a % 256 := by
  unfold lAnd
  have h1 := tbnL a
  rw [L_toInt (n := (Int64.ofInt a).toBitVec.toNat % 256) ?_ (by omega)]
  · omega
  · rw [Int64.toBitVec_and, BitVec.toNat_and]
    exact Nat.and_two_pow_sub_one_eq_mod _ 8
theorem lShr_k {a b : Int} (k : Nat) (ha : rgL a) (hb : (((Int32.ofInt b).toInt64 &&& 63).toBitVec.smod 64).toNat = k) : lShr a b = a / (2 ^ k : Nat) := by
  unfold lShr
  show ((Int64.ofInt a).toBitVec.sshiftRight (((Int32.ofInt b).toInt64 &&& 63).toBitVec.smod 64).toNat).toInt = _
  rw [hb, BitVec.toInt_sshiftRight]
  show (Int64.ofInt a).toInt >>> k = _
  rw [e_toIntL ha, Int.shiftRight_eq_div_pow]
theorem lUshr_k {a b : Int} (k : Nat) (hk : 0 < k) (hb : (((Int32.ofInt b).toInt64.toUInt64 &&& Int64.toUInt64 63).toBitVec % 64).toNat = k) : lUshr a b = (a % 18446744073709551616) / (2 ^ k : Nat) := by
  unfold lUshr
  have e : ((Int64.ofInt a).toUInt64 >>> ((Int32.ofInt b).toInt64.toUInt64 &&& Int64.toUInt64 63)).toInt64.toBitVec = (Int64.ofInt a).toBitVec >>> k := by
    rw [← hb]
    exact UInt64.toBitVec_shiftRight _ _
  have h1 := tbnL a
  have h3 : (Int64.ofInt a).toBitVec.toNat / 2 ^ k < 9223372036854775808 := by
    have h2 : (2 : Nat) ^ 1 ≤ 2 ^ k := Nat.pow_le_pow_right (by omega) hk
    have h4 := (Int64.ofInt a).toBitVec.isLt
    have h5 : (Int64.ofInt a).toBitVec.toNat / 2 ^ k ≤ (Int64.ofInt a).toBitVec.toNat / 2 := Nat.div_le_div_left (by omega) (by omega)
    omega
  rw [L_toInt (n := (Int64.ofInt a).toBitVec.toNat / 2 ^ k) ?_ h3]
  · rw [Int.natCast_ediv, h1]
  · rw [e, BitVec.toNat_ushiftRight, Nat.shiftRight_eq_div_pow]
theorem lUshr_0 {a : Int} (ha : rgL a) : lUshr a 0 = a := by
  unfold lUshr
  have e : ((Int64.ofInt a).toUInt64 >>> ((Int32.ofInt 0).toInt64.toUInt64 &&& Int64.toUInt64 63)).toInt64.toBitVec = (Int64.ofInt a).toBitVec >>> 0 := UInt64.toBitVec_shiftRight _ _
  show (((Int64.ofInt a).toUInt64 >>> ((Int32.ofInt 0).toInt64.toUInt64 &&& Int64.toUInt64 63)).toInt64.toBitVec).toInt = a
  rw [e, BitVec.ushiftRight_zero]
  exact e_toIntL ha
theorem lShl_8 {v : Int} (h0 : 0 ≤ v) (h1 : v < 36028797018963968) : lShl v 8 = v * 256 := by
  unfold lShl
  have h2 : Int64.ofInt v <<< ((Int32.ofInt 8).toInt64 &&& 63) = Int64.ofInt (v * 256) := by
    apply Int64.toBitVec.inj
    apply BitVec.eq_of_toNat_eq
    have e : (Int64.ofInt v <<< ((Int32.ofInt 8).toInt64 &&& 63)).toBitVec = (Int64.ofInt v).toBitVec <<< 8 := rfl
    rw [e, BitVec.toNat_shiftLeft, Nat.shiftLeft_eq]
    have h3 := tbnL v
    have h4 := tbnL (v * 256)
    omega
  rw [h2, e_toIntL ⟨by omega, by omega⟩]
theorem lOr_add {v c : Int} (h0 : 0 ≤ v) (h1 : v < 36028797018963968) (c0 : 0 ≤ c) (c1 : c < 256) : lOr (v * 256) c = v * 256 + c := by
  unfold lOr
  have h2 : Int64.ofInt (v * 256) ||| Int64.ofInt c = Int64.ofInt (v * 256 + c) := by
    apply Int64.toBitVec.inj
    apply BitVec.eq_of_toNat_eq
    have h3 := tbnL (v * 256 + c)
    have h4 := tbnL (v * 256)
    have h5 := tbnL c
    rw [Int64.toBitVec_or, BitVec.toNat_or]
    have h6 : (Int64.ofInt (v * 256)).toBitVec.toNat = 2 ^ 8 * v.toNat := by omega
    have h7 : (Int64.ofInt c).toBitVec.toNat = c.toNat := by omega
    rw [h6, h7, ← Nat.two_pow_add_eq_or_of_lt (by omega)]
    omega
  rw [h2, e_toIntL ⟨by omega, by omega⟩]
/-- a letter of a name -/
def byt (name : Int) (n : Nat) : Int := name / ((2 ^ (8 * n) : Nat) : Int) % 256
theorem byt_m {name : Int} (hr : rgL name) {n : Nat} (hn : n < 8) : lAnd (lShr name (8 * n)) 255 = byt name n := by
  rw [lAnd_255]
  have : ∀ k : Fin 8, (((Int32.ofInt (8 * (k.val : Int))).toInt64 &&& 63).toBitVec.smod 64).toNat = 8 * k.val := by decide +kernel
  rw [lShr_k (8 * n) hr (this ⟨n, hn⟩)]
  rfl
theorem byt_c {name : Int} (hr : rgL name) {n : Nat} (hn : n < 8) : lAnd (lUshr name (8 * n)) 255 = byt name n := by
  rw [lAnd_255]
  by_cases h0 : n = 0
  · subst h0
    rw [show (8 * ((0 : Nat) : Int)) = 0 from rfl, lUshr_0 hr]
    unfold byt
    simp
  · have : ∀ k : Fin 8, (((Int32.ofInt (8 * (k.val : Int))).toInt64.toUInt64 &&& Int64.toUInt64 63).toBitVec % 64).toNat = 8 * k.val := by decide +kernel
    rw [lUshr_k (8 * n) (by omega) (this ⟨n, hn⟩)]
    unfold byt
    have h8 : n = 1 ∨ n = 2 ∨ n = 3 ∨ n = 4 ∨ n = 5 ∨ n = 6 ∨ n = 7 := by omega
    rcases h8 with rfl | rfl | rfl | rfl | rfl | rfl | rfl
    · rw [show ((2 ^ (8 * 1) : Nat) : Int) = 256 from rfl]; omega
    · rw [show ((2 ^ (8 * 2) : Nat) : Int) = 65536 from rfl]; omega
    · rw [show ((2 ^ (8 * 3) : Nat) : Int) = 16777216 from rfl]; omega
    · rw [show ((2 ^ (8 * 4) : Nat) : Int) = 4294967296 from rfl]; omega
    · rw [show ((2 ^ (8 * 5) : Nat) : Int) = 1099511627776 from rfl]; omega
    · rw [show ((2 ^ (8 * 6) : Nat) : Int) = 281474976710656 from rfl]; omega
    · rw [show ((2 ^ (8 * 7) : Nat) : Int) = 72057594037927936 from rfl]; omega
theorem byt_r (name : Int) (n : Nat) : 0 ≤ byt name n ∧ byt name n < 256 := by unfold byt; omega
/-- the letters of a name to the low end; 0 if there is none or a sign that is no letter -/
def pl (name : Int) : Nat → Int → Int
  | 0, v => v
  | n + 1, v => if byt name n = 0 then pl name n v else if byt name n < 97 ∨ 122 < byt name n then 0 else pl name n (v * 256 + byt name n)
theorem pl_r (name : Int) : ∀ (n : Nat) (v : Int), 0 ≤ v → (2 * v + 1) * (256 ^ n : Nat) ≤ 18446744073709551616 → 0 ≤ pl name n v ∧ pl name n v < 9223372036854775808
  | 0, v, h0, h1 => by
    show 0 ≤ v ∧ v < _
    simp at h1
    omega
  | n + 1, v, h0, h1 => by
    have hb := byt_r name n
    have hp : (2 * v + 1) * (256 ^ (n + 1) : Nat) = (2 * v + 1) * 256 * (256 ^ n : Nat) := by
      rw [Nat.pow_succ, Int.natCast_mul, Int.mul_comm ((256 ^ n : Nat) : Int), ← Int.mul_assoc]; rfl
    have hq : (0 : Int) ≤ (256 ^ n : Nat) := Int.natCast_nonneg _
    unfold pl
    split
    · exact pl_r name n v h0 (Int.le_trans (Int.mul_le_mul_of_nonneg_right (by omega) hq) (hp ▸ h1))
    · split
      · omega
      · exact pl_r name n _ (by omega) (Int.le_trans (Int.mul_le_mul_of_nonneg_right (by omega) hq) (hp ▸ h1))
