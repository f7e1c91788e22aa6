set_option maxRecDepth 10000
/-! bits as arithmetic -/
theorem tbn (a : Int) : ((Int32.ofInt a).toBitVec.toNat : Int) = a % 4294967296 := by
  show ((BitVec.ofInt 32 a).toNat : Int) = _
  rw [BitVec.toNat_ofInt]
  omega
theorem bAnd_mask (a m : Int) (k : Nat) (hk : k ≤ 30) (hm : (Int32.ofInt m).toBitVec.toNat = 2 ^ k - 1) : bAnd a m = a % (2 ^ k : Nat) := by
  unfold bAnd
  rw [pk_and _ k hm]
  have h1 := tbn a
  have hp : (2 : Nat) ^ k ≤ 2 ^ 30 := Nat.pow_le_pow_right (by omega) hk
  have h2 : (Int32.ofInt a).toBitVec.toNat % 2 ^ k < 2 ^ k := Nat.mod_lt _ (Nat.two_pow_pos k)
  rw [nI_toInt (by omega)]
  rw [Int.natCast_emod, h1]
  have hd : ((2 ^ k : Nat) : Int) ∣ 4294967296 := by
    have : (2 ^ k : Nat) ∣ 4294967296 := by rw [show (4294967296 : Nat) = 2 ^ 32 from rfl]; exact Nat.pow_dvd_pow 2 (by omega)
    exact Int.natCast_dvd_natCast.mpr this
  exact Int.emod_emod_of_dvd a hd
theorem bAnd_1 (a : Int) : bAnd a 1 = a % 2 := bAnd_mask a 1 1 (by decide) (by decide +kernel)
theorem bAnd_3 (a : Int) : bAnd a 3 = a % 4 := bAnd_mask a 3 2 (by decide) (by decide +kernel)
theorem bAnd_7 (a : Int) : bAnd a 7 = a % 8 := bAnd_mask a 7 3 (by decide) (by decide +kernel)
theorem bAnd_15 (a : Int) : bAnd a 15 = a % 16 := bAnd_mask a 15 4 (by decide) (by decide +kernel)
theorem bAnd_63 (a : Int) : bAnd a 63 = a % 64 := bAnd_mask a 63 6 (by decide) (by decide +kernel)
theorem bAnd_255 (a : Int) : bAnd a 255 = a % 256 := bAnd_mask a 255 8 (by decide) (by decide +kernel)
theorem bAnd_65535 (a : Int) : bAnd a 65535 = a % 65536 := bAnd_mask a 65535 16 (by decide) (by decide +kernel)
theorem all8 {P : Int → Prop} (h : ∀ k : Fin 8, P (k.val : Int)) {m : Int} (h0 : 0 ≤ m) (h1 : m < 8) : P m := by
  have := h ⟨m.toNat, by omega⟩
  rwa [show ((⟨m.toNat, by omega⟩ : Fin 8).val : Int) = m from Int.toNat_of_nonneg h0] at this
theorem bAnd_4 {m : Int} (h0 : 0 ≤ m) (h1 : m < 8) : bAnd m 4 = m / 4 * 4 := all8 (P := fun m => bAnd m 4 = m / 4 * 4) (by decide +kernel) h0 h1
theorem bShr_k {a b : Int} (k : Nat) (ha : rg a) (hb : ((Int32.ofInt b &&& 31).toBitVec.smod 32).toNat = k) : bShr a b = a / (2 ^ k : Nat) := by
  unfold bShr
  rw [pk_shr _ _ k hb, e_toInt ha, Int.shiftRight_eq_div_pow]
theorem bShr_2 {a : Int} (ha : rg a) : bShr a 2 = a / 4 := bShr_k 2 ha (by decide +kernel)
theorem bShr_3 {a : Int} (ha : rg a) : bShr a 3 = a / 8 := bShr_k 3 ha (by decide +kernel)
theorem bShr_1 {a : Int} (ha : rg a) : bShr a 1 = a / 2 := bShr_k 1 ha (by decide +kernel)
theorem bShr_8 {a : Int} (ha : rg a) : bShr a 8 = a / 256 := bShr_k 8 ha (by decide +kernel)
theorem bShr_16 {a : Int} (ha : rg a) : bShr a 16 = a / 65536 := bShr_k 16 ha (by decide +kernel)
theorem bShr_0 {a : Int} (ha : rg a) : bShr a 0 = a := by rw [bShr_k 0 ha (by decide +kernel)]; simp
theorem bShr_4 {a : Int} (ha : rg a) : bShr a 4 = a / 16 := bShr_k 4 ha (by decide +kernel)
theorem bShr_12 {a : Int} (ha : rg a) : bShr a 12 = a / 4096 := bShr_k 12 ha (by decide +kernel)
theorem bShl_k {a b : Int} (k : Nat) (hk : k < 31) (hb : ((Int32.ofInt b &&& 31).toBitVec.smod 32).toNat = k) (hr : rg (a * (2 ^ k : Nat))) : bShl a b = a * (2 ^ k : Nat) := by
  unfold bShl
  have h := pk_shl (Int32.ofInt a) (Int32.ofInt b &&& 31) k hb
  have h1 := tbn a
  have h2 : Int32.ofInt a <<< (Int32.ofInt b &&& 31) = Int32.ofInt (a * (2 ^ k : Nat)) := by
    apply Int32.toBitVec.inj
    apply BitVec.eq_of_toNat_eq
    have h3 := tbn (a * (2 ^ k : Nat))
    have h4 : (((Int32.ofInt a).toBitVec.toNat * 2 ^ k % 2 ^ 32 : Nat) : Int) = (a * (2 ^ k : Nat)) % 4294967296 := by
      rw [Int.natCast_emod, Int.natCast_mul, h1]
      show (a % 4294967296 * _) % 4294967296 = _
      rw [Int.mul_emod, Int.emod_emod_of_dvd _ (Int.dvd_refl _), ← Int.mul_emod]
    omega
  rw [h2, e_toInt hr]
theorem bShl_16 {a : Int} (h : -32768 ≤ a ∧ a ≤ 32767) : bShl a 16 = a * 65536 := bShl_k 16 (by decide) (by decide +kernel) ⟨by show _ ≤ a * 65536; omega, by show a * 65536 ≤ _; omega⟩
theorem bOr_add {a b : Int} (ha : -32768 ≤ a ∧ a ≤ 32767) (hb : 0 ≤ b ∧ b < 65536) : bOr (a * 65536) b = a * 65536 + b := by
  unfold bOr
  have h2 : Int32.ofInt (a * 65536) ||| Int32.ofInt b = Int32.ofInt (a * 65536 + b) := by
    apply Int32.toBitVec.inj
    apply BitVec.eq_of_toNat_eq
    have h3 := tbn (a * 65536 + b)
    have h4 := tbn (a * 65536)
    have h5 := tbn b
    rw [Int32.toBitVec_or, BitVec.toNat_or]
    have h6 : (Int32.ofInt (a * 65536)).toBitVec.toNat = 2 ^ 16 * (a % 65536).toNat := by omega
    have h7 : (Int32.ofInt b).toBitVec.toNat = b.toNat := by omega
    rw [h6, h7, ← Nat.two_pow_add_eq_or_of_lt (by omega)]
    omega
  rw [h2, e_toInt ⟨by omega, by omega⟩]
/-! the eight moves -/
def lie (mir t m : Int) : Int := (if mir = 0 then 0 else m / 4 * 4) + m % 4 % t
def thn (a b : Int) : Int := ((a / 4 + b / 4) % 2) * 4 + (b + (if b / 4 = 0 then a else -a)) % 4
def edg (m e : Int) : Int := if m / 4 = 1 ∧ (e - m) % 4 % 2 = 1 then 4 - (e - m) % 4 else (e - m) % 4
def col (edges m e : Int) : Int := edges / ((2 ^ (4 * (edg m e)).toNat : Nat) : Int) % 16
theorem all8b {P : Int → Int → Prop} (h : ∀ k j : Fin 8, P (k.val : Int) (j.val : Int)) {m n : Int} (h0 : 0 ≤ m) (h1 : m < 8) (g0 : 0 ≤ n) (g1 : n < 8) : P m n := all8 (P := fun m => P m n) (fun k => all8 (P := fun n => P (k.val : Int) n) (fun j => h k j) g0 g1) h0 h1
theorem thn_m {a b : Int} (h0 : 0 ≤ a) (h1 : a < 8) (g0 : 0 ≤ b) (g1 : b < 8) : bOr (bAnd (bXor a b) 4) (bAnd (b + (if bAnd b 4 = 0 then a else -a)) 3) = thn a b := all8b (P := fun a b => bOr (bAnd (bXor a b) 4) (bAnd (b + (if bAnd b 4 = 0 then a else -a)) 3) = thn a b) (by decide +kernel) h0 h1 g0 g1
theorem thn_r {a b : Int} (h0 : 0 ≤ a) (h1 : a < 8) (g0 : 0 ≤ b) (g1 : b < 8) : 0 ≤ thn a b ∧ thn a b < 8 := by unfold thn; omega
theorem edg_r (m e : Int) : 0 ≤ edg m e ∧ edg m e < 4 := by unfold edg; split <;> omega
theorem lie_r {mir t m : Int} (ht : t = 1 ∨ t = 2 ∨ t = 4) (h0 : 0 ≤ m) (h1 : m < 8) : 0 ≤ lie mir t m ∧ lie mir t m < 8 := by
  unfold lie
  rcases ht with rfl | rfl | rfl <;> split <;> omega
