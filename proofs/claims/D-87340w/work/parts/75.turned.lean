set_option maxRecDepth 10000
/-! which kinds lie how, as a pattern grows -/
def gst (M : Int) (P : GP) (k m : Int) : Prop := ∃ i t, (0 ≤ i ∧ i < M) ∧ (0 ≤ t ∧ t < P.1 i) ∧ P.2.2 i t ≠ 0 ∧ kOf (P.2.2 i t) = k ∧ mOf (P.2.2 i t) = m
def lyS (σ : MS) (r : Int) (L : Int → Int → Prop) (k' m' : Int) : Prop := ∃ k m y x, (0 ≤ k ∧ k < σ.1 5) ∧ (0 ≤ m ∧ m < 8) ∧ L k m ∧ (0 ≤ y ∧ y < (σ.2 26 r)) ∧ (0 ≤ x ∧ x < (σ.2 27 r)) ∧ uB σ r k y x ≠ 0 ∧ kOf (uB σ r k y x) = k' ∧ lie (σ.2 3 k') (σ.2 1 k') (thn (mOf (uB σ r k y x)) m) = m'
def lyN (σ : MS) (r : Int) (L : Int → Int → Prop) : Nat → Int → Int → Prop
  | 0 => L
  | n + 1 => lyS σ r (lyN σ r L n)
def wdN (σ : MS) (r : Int) : Nat → Int
  | 0 => 1
  | n + 1 => wdN σ r n * (σ.2 27 r)
theorem lyS_c {σ : MS} {r : Int} {L L' : Int → Int → Prop} (h : ∀ k m, L k m ↔ L' k m) (k m : Int) : lyS σ r L k m ↔ lyS σ r L' k m := by
  constructor
  · rintro ⟨k1, m1, y, x, h1, h2, h3, h4⟩
    exact ⟨k1, m1, y, x, h1, h2, (h _ _).mp h3, h4⟩
  · rintro ⟨k1, m1, y, x, h1, h2, h3, h4⟩
    exact ⟨k1, m1, y, x, h1, h2, (h _ _).mpr h3, h4⟩
theorem cf_sur {m y x R C : Int} (hm : 0 ≤ m ∧ m < 8) (hev : m % 2 = 0) (hy : 0 ≤ y ∧ y < R) (hx : 0 ≤ x ∧ x < C) : ∃ y0 x0, (0 ≤ y0 ∧ y0 < R) ∧ (0 ≤ x0 ∧ x0 < C) ∧ cfI m R y0 x0 = y ∧ cfJ m C y0 x0 = x := by
  have h4 : m = 0 ∨ m = 2 ∨ m = 4 ∨ m = 6 := by omega
  rcases h4 with rfl | rfl | rfl | rfl
  · refine ⟨y, x, hy, hx, ?_, ?_⟩
    · unfold cfI
      rw [if_pos (by decide)]
    · unfold cfJ cfJ0
      rw [if_pos (by decide), if_pos (by decide)]
  · refine ⟨R - 1 - y, C - 1 - x, by omega, by omega, ?_, ?_⟩
    · unfold cfI
      rw [if_neg (by decide), if_neg (by decide), if_pos (by decide)]
      omega
    · unfold cfJ cfJ0
      rw [if_pos (by decide), if_neg (by decide), if_neg (by decide), if_pos (by decide)]
      omega
  · refine ⟨y, C - 1 - x, hy, by omega, ?_, ?_⟩
    · unfold cfI
      rw [if_pos (by decide)]
    · unfold cfJ cfJ0
      rw [if_neg (by decide), if_pos (by decide)]
      omega
  · refine ⟨R - 1 - y, x, by omega, hx, ?_, ?_⟩
    · unfold cfI
      rw [if_neg (by decide), if_neg (by decide), if_pos (by decide)]
      omega
    · unfold cfJ cfJ0
      rw [if_neg (by decide), if_neg (by decide), if_neg (by decide), if_pos (by decide)]
      omega
theorem gst_S {σ : MS} {r M : Int} {P : GP} (hK : kok σ) (hQ : qok σ) (hr : 0 ≤ r ∧ r < σ.1 29) (hP : gpok σ M P) (hev : ∀ k m, gst M P k m → m % 2 = 0) (k' m' : Int) : gst (M * (σ.2 26 r)) (gpS σ r P) k' m' ↔ lyS σ r (gst M P) k' m' := by
  have hq := hQ.2 r hr.1 hr.2
  have hk1 := hK.1
  constructor
  · rintro ⟨i, t, ⟨i0, i1⟩, ⟨t0, t1⟩, hn, hk, hm⟩
    have t1 : t < P.1 (i / (σ.2 26 r)) * (σ.2 27 r) := t1
    have hn : blk σ r (P.2.2 (i / (σ.2 26 r)) (t / (σ.2 27 r))) (i % (σ.2 26 r)) (t % (σ.2 27 r)) ≠ 0 := hn
    have hk : kOf (blk σ r (P.2.2 (i / (σ.2 26 r)) (t / (σ.2 27 r))) (i % (σ.2 26 r)) (t % (σ.2 27 r))) = k' := hk
    have hm : mOf (blk σ r (P.2.2 (i / (σ.2 26 r)) (t / (σ.2 27 r))) (i % (σ.2 26 r)) (t % (σ.2 27 r))) = m' := hm
    obtain ⟨⟨a0, a1⟩, ⟨b0, b1⟩, -⟩ := dvc (k := i) (c := (σ.2 26 r)) (r := M) (by omega) i0 i1
    obtain ⟨⟨c0, c1⟩, ⟨d0, d1⟩, -⟩ := dvc (k := t) (c := (σ.2 27 r)) (r := P.1 (i / (σ.2 26 r))) (by omega) t0 t1
    have hci := ((hP _ a0 a1).2.2 _ c0 c1).1
    have hg : P.2.2 (i / (σ.2 26 r)) (t / (σ.2 27 r)) ≠ 0 → gst M P (kOf (P.2.2 (i / (σ.2 26 r)) (t / (σ.2 27 r)))) (mOf (P.2.2 (i / (σ.2 26 r)) (t / (σ.2 27 r)))) := fun z => ⟨i / (σ.2 26 r), t / (σ.2 27 r), ⟨a0, a1⟩, ⟨c0, c1⟩, z, rfl, rfl⟩
    generalize P.2.2 (i / (σ.2 26 r)) (t / (σ.2 27 r)) = c at *
    have nc : c ≠ 0 := fun z => hn (by rw [z, blk_0])
    have hg := hg nc
    have he := hev _ _ hg
    have hkc := isC_k hci nc
    have hmo := mOf_r (c := c)
    obtain ⟨⟨ci0, ci1⟩, cj0, cj1⟩ := cf_r (r := (σ.2 26 r)) (c := (σ.2 27 r)) (i := i % (σ.2 26 r)) (j := t % (σ.2 27 r)) hmo b0 (by unfold mvR; rw [if_pos he]; exact b1) d0 (by unfold mvC; rw [if_pos he]; exact d1)
    have hBi := (hq.2.2 (kOf c) _ _ hkc.1 (by omega) ci0 (show cfI (mOf c) (σ.2 26 r) (i % (σ.2 26 r)) (t % (σ.2 27 r)) < 4 by omega) cj0 (show cfJ (mOf c) (σ.2 27 r) (i % (σ.2 26 r)) (t % (σ.2 27 r)) < 4 by omega)).1
    obtain ⟨z1, z2⟩ := cd_blk (r := r) (i := i % (σ.2 26 r)) (j := t % (σ.2 27 r)) hK nc hBi
    have nB : σ.2 28 (640 * r + 16 * kOf c + 4 * cfI (mOf c) (σ.2 26 r) (i % (σ.2 26 r)) (t % (σ.2 27 r)) + cfJ (mOf c) (σ.2 27 r) (i % (σ.2 26 r)) (t % (σ.2 27 r))) ≠ 0 := fun z => hn (z1 z)
    obtain ⟨nb, e0, e1, -⟩ := z2 nB
    rw [(cd_n nb).1, hk] at e0
    rw [(cd_n nb).2.1, hm] at e1
    refine ⟨kOf c, mOf c, cfI (mOf c) (σ.2 26 r) (i % (σ.2 26 r)) (t % (σ.2 27 r)), cfJ (mOf c) (σ.2 27 r) (i % (σ.2 26 r)) (t % (σ.2 27 r)), hkc, hmo, hg, ⟨ci0, ci1⟩, ⟨cj0, cj1⟩, nB, e0.symm, ?_⟩
    rw [e0]
    exact e1.symm
  · rintro ⟨k, m, y, x, hk, hm, ⟨i, t, hi, ht, nc, ek, em⟩, hy, hx, nB, e1, e2⟩
    have he := hev k m ⟨i, t, hi, ht, nc, ek, em⟩
    obtain ⟨y0, x0, hy0, hx0, ey, ex⟩ := cf_sur hm he hy hx
    have h1 := ixr hi.1 hi.2 hy0.1 hy0.2
    have h2 := ixr ht.1 ht.2 hx0.1 hx0.2
    have d1 := ixd (a := i) hy0.1 hy0.2
    have d2 := ixd (a := t) hx0.1 hx0.2
    have hBi := (hq.2.2 k _ _ hk.1 (by omega) hy.1 (show y < 4 by omega) hx.1 (show x < 4 by omega)).1
    have hb := cd_blk (σ := σ) (r := r) (c := P.2.2 i t) (i := y0) (j := x0) hK nc (by rw [ek, em, ey, ex]; exact hBi)
    rw [ek, em, ey, ex] at hb
    obtain ⟨nb, b0, b1, -⟩ := hb.2 nB
    rw [(cd_n nb).1] at b0
    rw [(cd_n nb).2.1] at b1
    have e1 : kOf (σ.2 28 (640 * r + 16 * k + 4 * y + x)) = k' := e1
    have e2 : lie (σ.2 3 k') (σ.2 1 k') (thn (mOf (σ.2 28 (640 * r + 16 * k + 4 * y + x))) m) = m' := e2
    rw [e1] at b0 b1
    rw [e2] at b1
    refine ⟨i * (σ.2 26 r) + y0, t * (σ.2 27 r) + x0, h1, ?_, ?_, ?_, ?_⟩
    · show 0 ≤ t * (σ.2 27 r) + x0 ∧ t * (σ.2 27 r) + x0 < P.1 ((i * (σ.2 26 r) + y0) / (σ.2 26 r)) * (σ.2 27 r)
      rw [d1.1]
      exact h2
    · show blk σ r (P.2.2 ((i * (σ.2 26 r) + y0) / (σ.2 26 r)) ((t * (σ.2 27 r) + x0) / (σ.2 27 r))) ((i * (σ.2 26 r) + y0) % (σ.2 26 r)) ((t * (σ.2 27 r) + x0) % (σ.2 27 r)) ≠ 0
      rw [d1.1, d1.2, d2.1, d2.2]
      exact nb
    · show kOf (blk σ r (P.2.2 ((i * (σ.2 26 r) + y0) / (σ.2 26 r)) ((t * (σ.2 27 r) + x0) / (σ.2 27 r))) ((i * (σ.2 26 r) + y0) % (σ.2 26 r)) ((t * (σ.2 27 r) + x0) % (σ.2 27 r))) = k'
      rw [d1.1, d1.2, d2.1, d2.2]
      exact b0
    · show mOf (blk σ r (P.2.2 ((i * (σ.2 26 r) + y0) / (σ.2 26 r)) ((t * (σ.2 27 r) + x0) / (σ.2 27 r))) ((i * (σ.2 26 r) + y0) % (σ.2 26 r)) ((t * (σ.2 27 r) + x0) % (σ.2 27 r))) = m'
      rw [d1.1, d1.2, d2.1, d2.2]
      exact b1
theorem gp_row {σ : MS} {r M : Int} {P : GP} (hR : 1 ≤ (σ.2 26 r)) (hM : 0 ≤ M) (s : Nat) : 0 ≤ gpM σ r M s ∧ (∀ i, 0 ≤ i → i < gpM σ r M s → ∃ i0, (0 ≤ i0 ∧ i0 < M) ∧ (gpN σ r P s).1 i = P.1 i0 * wdN σ r s ∧ (gpN σ r P s).2.1 i = P.2.1 i0 * wdN σ r s) ∧ ∀ i0, 0 ≤ i0 → i0 < M → ∃ i, (0 ≤ i ∧ i < gpM σ r M s) ∧ (gpN σ r P s).1 i = P.1 i0 * wdN σ r s ∧ (gpN σ r P s).2.1 i = P.2.1 i0 * wdN σ r s := by
  induction s with
  | zero =>
    refine ⟨hM, fun i i0 i1 => ⟨i, ⟨i0, i1⟩, (Int.mul_one _).symm, (Int.mul_one _).symm⟩, fun i i0 i1 => ⟨i, ⟨i0, i1⟩, (Int.mul_one _).symm, (Int.mul_one _).symm⟩⟩
  | succ s ih =>
    obtain ⟨h1, h2, h3⟩ := ih
    refine ⟨Int.mul_nonneg h1 (by omega), fun i i0 i1 => ?_, fun z z0 z1 => ?_⟩
    · obtain ⟨⟨a0, a1⟩, -, -⟩ := dvc (k := i) (c := (σ.2 26 r)) (r := gpM σ r M s) (by omega) i0 i1
      obtain ⟨z, hz, e1, e2⟩ := h2 _ a0 a1
      refine ⟨z, hz, ?_, ?_⟩
      · show (gpN σ r P s).1 (i / (σ.2 26 r)) * (σ.2 27 r) = P.1 z * (wdN σ r s * (σ.2 27 r))
        rw [e1, Int.mul_assoc]
      · show (gpN σ r P s).2.1 (i / (σ.2 26 r)) * (σ.2 27 r) = P.2.1 z * (wdN σ r s * (σ.2 27 r))
        rw [e2, Int.mul_assoc]
    · obtain ⟨i, hi, e1, e2⟩ := h3 z z0 z1
      have h4 := ixr (b := 0) hi.1 hi.2 (Int.le_refl _) (show 0 < (σ.2 26 r) by omega)
      have d1 := ixd (a := i) (b := 0) (c := (σ.2 26 r)) (Int.le_refl _) (by omega)
      refine ⟨i * (σ.2 26 r) + 0, h4, ?_, ?_⟩
      · show (gpN σ r P s).1 ((i * (σ.2 26 r) + 0) / (σ.2 26 r)) * (σ.2 27 r) = P.1 z * (wdN σ r s * (σ.2 27 r))
        rw [d1.1, e1, Int.mul_assoc]
      · show (gpN σ r P s).2.1 ((i * (σ.2 26 r) + 0) / (σ.2 26 r)) * (σ.2 27 r) = P.2.1 z * (wdN σ r s * (σ.2 27 r))
        rw [d1.1, e2, Int.mul_assoc]
theorem gpM_mono {σ : MS} {r M : Int} (hR : 1 ≤ (σ.2 26 r)) (hM : 0 ≤ M) (s k : Nat) : 0 ≤ gpM σ r M s ∧ gpM σ r M s ≤ gpM σ r M (s + k) := by
  have h0 : ∀ s, 0 ≤ gpM σ r M s := fun s => by
    induction s with
    | zero => exact hM
    | succ s ih => exact Int.mul_nonneg ih (by omega)
  refine ⟨h0 s, ?_⟩
  induction k with
  | zero => exact Int.le_refl _
  | succ k ih =>
    have h1 := h0 (s + k)
    have h2 : gpM σ r M (s + (k + 1)) = gpM σ r M (s + k) * (σ.2 26 r) := rfl
    have h3 := Int.mul_le_mul (Int.le_refl (gpM σ r M (s + k))) hR (by omega) h1
    rw [h2]
    omega
theorem wdN_mono {σ : MS} {r : Int} (hC : 1 ≤ (σ.2 27 r)) (s k : Nat) : 1 ≤ wdN σ r s ∧ wdN σ r s ≤ wdN σ r (s + k) := by
  have h0 : ∀ s, 1 ≤ wdN σ r s := fun s => by
    induction s with
    | zero => exact Int.le_refl _
    | succ s ih =>
      have h3 := Int.mul_le_mul ih hC (by omega) (by omega)
      show 1 ≤ wdN σ r s * (σ.2 27 r)
      omega
  refine ⟨h0 s, ?_⟩
  induction k with
  | zero => exact Int.le_refl _
  | succ k ih =>
    have h1 := h0 (s + k)
    have h2 : wdN σ r (s + (k + 1)) = wdN σ r (s + k) * (σ.2 27 r) := rfl
    have h3 := Int.mul_le_mul (Int.le_refl (wdN σ r (s + k))) hC (by omega) (by omega)
    rw [h2]
    omega
def trn (σ : MS) (r p n : Int) : Prop := ∃ s : Nat, (s : Int) < n ∧ ∃ k m, (0 ≤ k ∧ k < 40) ∧ (0 ≤ m ∧ m < 8) ∧ m % 2 = 1 ∧ lyN σ r (gst (σ.2 11 p) (gp0 σ p)) s k m
theorem ly_gst {σ : MS} {r M : Int} {P : GP} (hK : kok σ) (hQ : qok σ) (hr : 0 ≤ r ∧ r < σ.1 29) (hP : gpok σ M P) (s : Nat) (h : ∀ j : Nat, j < s → okS σ r (gpM σ r M j) (gpN σ r P j)) : gpok σ (gpM σ r M s) (gpN σ r P s) ∧ ((∀ j : Nat, j < s → ∀ k m, gst (gpM σ r M j) (gpN σ r P j) k m → m % 2 = 0) → ∀ k m, lyN σ r (gst M P) s k m ↔ gst (gpM σ r M s) (gpN σ r P s) k m) := by
  induction s with
  | zero => exact ⟨hP, fun _ _ _ => Iff.rfl⟩
  | succ s ih =>
    obtain ⟨h1, h2⟩ := ih (fun j hj => h j (by omega))
    refine ⟨gpok_S hK hQ hr h1 (h s (by omega)), fun he k m => ?_⟩
    exact (lyS_c (h2 (fun j hj => he j (by omega))) k m).trans (gst_S hK hQ hr h1 (he s (by omega)) k m).symm
/-- what can grow -/
def cgOk (σ : MS) (p r : Int) (n : Nat) : Prop := gpM σ r (σ.2 11 p) n ≤ 60 ∧ (∀ i, 0 ≤ i → i < σ.2 11 p → σ.2 6 (rw_ σ p i) * wdN σ r n ≤ 60 ∧ (if 0 ≤ σ.2 7 (rw_ σ p i) then σ.2 7 (rw_ σ p i) else -σ.2 7 (rw_ σ p i)) * wdN σ r n ≤ 30) ∧ ((σ.2 26 r) = (σ.2 27 r) ∨ ¬ trn σ r p n)
theorem grw_iff {σ : MS} {p r : Int} {n : Nat} (hK : kok σ) (hR : rok σ) (hP : pok σ) (hQ : qok σ) (hp : 0 ≤ p ∧ p < σ.1 12) (hr : 0 ≤ r ∧ r < σ.1 29) (hc : ∀ i, rg (σ.2 8 i)) : (∀ s : Nat, (s : Int) < n → okS σ r (gpM σ r (σ.2 11 p) s) (gpN σ r (gp0 σ p) s)) ↔ cgOk σ p r n := by
  have hq := hQ.2 r hr.1 hr.2
  have hk1 := hK.1
  have hM := (hP.2 p hp.1 hp.2).1
  have g0 := gpok_0 hR hP hp hc
  have ra := gp_row (σ := σ) (r := r) (M := σ.2 11 p) (P := gp0 σ p) (by omega) hM.1
  constructor
  · intro H
    have even : (σ.2 26 r) ≠ (σ.2 27 r) → ∀ j : Nat, (j : Int) < n → ∀ k m, gst (gpM σ r (σ.2 11 p) j) (gpN σ r (gp0 σ p) j) k m → m % 2 = 0 := by
      rintro hne j hj k m ⟨i, t, hi, ht, nc, -, em⟩
      have := ((H j hj).2 i hi.1 hi.2).2.2 t ht.1 ht.2
      rw [← em]
      rcases this with z | z | z
      · exact absurd z nc
      · exact z
      · exact absurd z hne
    refine ⟨?_, fun i i0 i1 => ?_, ?_⟩
    · cases n with
      | zero => exact hM.2
      | succ n => exact (H n (by omega)).1
    · cases n with
      | zero =>
        have hrw := (hP.2 p hp.1 hp.2).2 i i0 i1
        have hrr := hR.2 _ hrw.1 hrw.2
        show _ * 1 ≤ 60 ∧ _ * 1 ≤ 30
        rw [Int.mul_one, Int.mul_one]
        refine ⟨hrr.1.2, ?_⟩
        split <;> omega
      | succ n =>
        obtain ⟨z, hz, e1, e2⟩ := (ra n).2.2 i i0 i1
        obtain ⟨o1, o2, -⟩ := (H n (by omega)).2 z hz.1 hz.2
        rw [e1, Int.mul_assoc] at o1
        rw [e2, Int.mul_assoc] at o2
        refine ⟨o1, ?_⟩
        have o2 : -30 ≤ σ.2 7 (rw_ σ p i) * wdN σ r (n + 1) ∧ σ.2 7 (rw_ σ p i) * wdN σ r (n + 1) ≤ 30 := o2
        split
        · exact o2.2
        · rw [Int.neg_mul]
          omega
    · by_cases hne : (σ.2 26 r) = (σ.2 27 r)
      · exact Or.inl hne
      · refine Or.inr ?_
        rintro ⟨s, hs, k, m, -, -, hodd, hl⟩
        have h2 := (ly_gst hK hQ hr g0 s (fun j hj => H j (by omega))).2 (fun j hj => even hne j (by omega)) k m
        have := even hne s hs k m (h2.mp hl)
        omega
  · rintro ⟨ca, cb, cc⟩
    have main : ∀ s : Nat, (∀ j : Nat, j < s → (j : Int) < n → okS σ r (gpM σ r (σ.2 11 p) j) (gpN σ r (gp0 σ p) j) ∧ ((σ.2 26 r) = (σ.2 27 r) ∨ ∀ k m, gst (gpM σ r (σ.2 11 p) j) (gpN σ r (gp0 σ p) j) k m → m % 2 = 0)) := by
      intro s
      induction s with
      | zero => intro j hj; omega
      | succ s ih =>
        intro j hj hjn
        by_cases e : j < s
        · exact ih j e hjn
        · have e : j = s := by omega
          subst e
          have lg := ly_gst hK hQ hr g0 j (fun i hi => (ih i hi (by omega)).1)
          have ev : (σ.2 26 r) = (σ.2 27 r) ∨ ∀ k m, gst (gpM σ r (σ.2 11 p) j) (gpN σ r (gp0 σ p) j) k m → m % 2 = 0 := by
            by_cases hne : (σ.2 26 r) = (σ.2 27 r)
            · exact Or.inl hne
            · refine Or.inr (fun k m hg => ?_)
              have hnt : ¬ trn σ r p n := cc.resolve_left hne
              have lg2 := lg.2 (fun i hi => (ih i hi (by omega)).2.resolve_left hne) k m
              obtain ⟨i, t, hi, ht, nc, ek, em⟩ := hg
              have hci := ((lg.1 i hi.1 hi.2).2.2 t ht.1 ht.2).1
              have hkc := isC_k hci nc
              have hmo := mOf_r (c := (gpN σ r (gp0 σ p) j).2.2 i t)
              rw [ek] at hkc
              rw [em] at hmo
              apply Classical.byContradiction
              intro q
              exact hnt ⟨j, hjn, k, m, ⟨hkc.1, by omega⟩, hmo, by omega, lg2.mpr ⟨i, t, hi, ht, nc, ek, em⟩⟩
          refine ⟨⟨?_, fun i i0 i1 => ?_⟩, ev⟩
          · have z := (gpM_mono (σ := σ) (r := r) (M := σ.2 11 p) (by omega) hM.1 (j + 1) (n - (j + 1))).2
            rw [show j + 1 + (n - (j + 1)) = n by omega] at z
            have y : gpM σ r (σ.2 11 p) (j + 1) = gpM σ r (σ.2 11 p) j * (σ.2 26 r) := rfl
            omega
          · obtain ⟨z, hz, e1, e2⟩ := (ra j).2.1 i i0 i1
            obtain ⟨b1, b2⟩ := cb z hz.1 hz.2
            have w := (wdN_mono (σ := σ) (r := r) (by omega) (j + 1) (n - (j + 1)))
            rw [show j + 1 + (n - (j + 1)) = n by omega] at w
            have hrw := (hP.2 p hp.1 hp.2).2 z hz.1 hz.2
            have hrr := hR.2 _ hrw.1 hrw.2
            have y1 := Int.mul_le_mul (Int.le_refl (σ.2 6 (rw_ σ p z))) w.2 (by omega) hrr.1.1
            have eL : (gp0 σ p).1 z = σ.2 6 (rw_ σ p z) := rfl
            have eO : (gp0 σ p).2.1 z = σ.2 7 (rw_ σ p z) := rfl
            refine ⟨?_, ?_, fun k k0 k1 => ?_⟩
            · rw [e1, eL, Int.mul_assoc]
              show _ * wdN σ r (j + 1) ≤ 60
              omega
            · rw [e2, eO, Int.mul_assoc]
              show -30 ≤ _ * wdN σ r (j + 1) ∧ _ * wdN σ r (j + 1) ≤ 30
              by_cases q : 0 ≤ σ.2 7 (rw_ σ p z)
              · rw [if_pos q] at b2
                have y2 := Int.mul_le_mul (Int.le_refl (σ.2 7 (rw_ σ p z))) w.2 (by omega) q
                have y3 := Int.mul_nonneg q (show 0 ≤ wdN σ r (j + 1) by omega)
                omega
              · rw [if_neg q] at b2
                have y2 := Int.mul_le_mul (Int.le_refl (-σ.2 7 (rw_ σ p z))) w.2 (by omega) (by omega)
                have y3 := Int.mul_nonneg (show 0 ≤ -σ.2 7 (rw_ σ p z) by omega) (show 0 ≤ wdN σ r (j + 1) by omega)
                rw [Int.neg_mul] at y2 y3
                omega
            · by_cases z0 : (gpN σ r (gp0 σ p) j).2.2 i k = 0
              · exact Or.inl z0
              · rcases ev with ev | ev
                · exact Or.inr (Or.inr ev)
                · exact Or.inr (Or.inl (ev _ _ ⟨i, k, ⟨i0, i1⟩, ⟨k0, k1⟩, z0, rfl, rfl⟩))
    exact fun s hs => (main (s + 1) s (by omega) hs).1
