set_option maxRecDepth 10000
/-! rows of one pattern change -/
theorem row_c {G : GH} {q len off : Int} {C C' : Int → Int} (e : ∀ j, 0 ≤ j → j < len → C' j = C j) (h : row G q len off C) : row G q len off C' := by
  obtain ⟨h1, n, fk, fm, fs, h2, h3, h4, h5, h6⟩ := h
  refine ⟨h1, n, fk, fm, fs, h2, h3, h4, h5, fun j j0 j1 => ?_⟩
  rw [e j j0 j1]
  exact h6 j j0 j1
theorem Rrow_up {σ τ : MS} {G G' : GH} (hr : Rrow σ G) (same : ∀ q, 0 ≤ q → q < σ.1 9 → τ.2 6 q = σ.2 6 q ∧ τ.2 7 q = σ.2 7 q ∧ ∀ k, 0 ≤ k → k < σ.2 6 q → τ.2 8 (60 * q + k) = σ.2 8 (60 * q + k)) (fr : ∀ q : Rl, (14 ≤ q.1 ∧ q.1 < 18) → 0 ≤ q.2.1 → q.2.1 < σ.1 9 → G' q = G q) (new : ∀ q, σ.1 9 ≤ q → q < τ.1 9 → row G' q (τ.2 6 q) (τ.2 7 q) (fun k => τ.2 8 (60 * q + k))) : Rrow τ G' := by
  intro q q0 q1
  by_cases c : q < σ.1 9
  · obtain ⟨e1, e2, e3⟩ := same q q0 c
    rw [e1, e2]
    exact row_c (fun j j0 j1 => e3 j j0 j1) (row_e (fun t t0 t1 => fr _ ⟨t0, t1⟩ q0 c) (hr q q0 c))
  · exact new q (by omega) q1
theorem Rx_chp {σ τ : MS} {pl cl : Int → Int} {N b p : Int} {rg : Option Rl} {G G' : GH} (hw : Rx σ (pl, cl, N, b, rg) G) (p0 : 0 ≤ p) (p1 : p < σ.1 12) (hm : σ.1 9 ≤ τ.1 9)
    (hn : ∀ k, k ≠ 9 → τ.1 k = σ.1 k) (ha : ∀ k, k < 6 ∨ 11 < k → τ.2 k = σ.2 k) (old : ∀ p', 0 ≤ p' → p' < σ.1 12 → p' ≠ p → τ.2 11 p' = σ.2 11 p' ∧ ∀ i, 0 ≤ i → i < σ.2 11 p' → rw_ τ p' i = rw_ σ p' i)
    (ch : ∀ q : Rl, q ≠ oR → ¬ ((14 ≤ q.1 ∧ q.1 < 18) ∧ 0 ≤ q.2.1 ∧ q.2.1 < τ.1 9) → ¬ ((q.1 = 30 ∨ q.1 = 31) ∧ q.2.1 = pl p) → G' q = G q) (hO : off G' (σ.1 16) (τ.1 9) (σ.1 41) rg) (h3 : Rrow τ G') (hl : lst G' (pl p) (τ.2 11 p) (fun i => some (rO (rw_ τ p i)))) : Rx τ (pl, cl, N, b, rg) G' := by
  obtain ⟨hx1, hx2, hx3, hx4, hx5, hx6, hx7, hx8, hx9, hx10, hx11⟩ := Rx_un hw
  obtain ⟨i1, i2, i3, i4, i5, i6, i7⟩ := hx11
  have hpp := i3 p p0 p1
  have ch2 : ∀ q : Rl, q.1 ≠ 2 → ¬ ((14 ≤ q.1 ∧ q.1 < 18) ∧ 0 ≤ q.2.1 ∧ q.2.1 < τ.1 9) → ¬ ((q.1 = 30 ∨ q.1 = 31) ∧ q.2.1 = pl p) → G' q = G q := fun q q1 => ch q (fun z => q1 (by rw [z]))
  have g1 : off G' (τ.1 16) (τ.1 9) (τ.1 41) rg := by
    rw [hn 16 (by decide), hn 41 (by decide)]
    exact hO
  have g4 : Rpat τ G' pl := by
    refine ⟨?_, fun p' q0 q1 => ?_⟩
    · rw [hn 12 (by decide)]
      exact lst_of_fr (fun q q1 q2 => ch2 q (by omega) (by omega) (by omega)) hx4.1
    · rw [hn 12 (by decide)] at q1
      refine ⟨(ch2 _ (by simp only []; omega) (by simp only []; omega) (by simp only []; omega)).trans (hx4.2 p' q0 q1).1, ?_⟩
      by_cases e : p' = p
      · rw [e]
        exact hl
      · obtain ⟨o1, o2⟩ := old p' q0 q1 e
        have hne : pl p' ≠ pl p := fun z => e (i5 p' p q0 q1 p0 p1 z)
        rw [o1]
        refine lst_c (fun i i0 i1 => ?_) (lst_of_fr (fun q q1 q2 => ch2 q (by omega) (by omega) (by omega)) (hx4.2 p' q0 q1).2)
        rw [o2 i i0 i1]
  have g5 : Rchg τ G' cl := Rchg_c (hn 16 (by decide)) (hn 17 (by decide)) (ha 13 (by decide)) (ha 14 (by decide)) (ha 15 (by decide)) (Rchg_fr (ch2 _ (by decide) (by simp only []; omega) (by simp only []; omega)) (fun _ _ _ => ch2 _ (by simp only []; omega) (by simp only []; omega) (by simp only []; omega)) (fun t t0 t1 q hq e => ch2 q (by omega) (by omega) (by have z := i7 p t p0 p1 t0 t1; omega)) hx5)
  have g10 : fre τ N G' := fre_ch (σ := σ) (k := σ.1 5) (m := τ.1 9) (p := σ.1 12) (r := σ.1 29) (f := σ.1 40) (hn 5 (by decide)) rfl (hn 12 (by decide)) (hn 29 (by decide)) (hn 40 (by decide)) (Int.le_refl _) hm (Int.le_refl _) (Int.le_refl _) (Int.le_refl _) (Int.le_refl _) (fun q hq => ch2 q (by unfold frq at hq; omega) (by unfold frq at hq; omega) (by unfold frq at hq; omega)) hx10
  have p2 : Rkin τ G' := Rkin_c (hn 5 (by decide)) (ha 0 (by decide)) (ha 1 (by decide)) (ha 2 (by decide)) (ha 3 (by decide)) (ha 4 (by decide)) (Rkin_fr2 (fun q hq => ch2 q (by omega) (by omega) (by omega)) hx2)
  have p6 : Rreg τ G' rg b := Rreg_c (hn 24 (by decide)) (hn 25 (by decide)) (ha 20 (by decide)) (ha 22 (by decide)) (Rreg_fr (fun q hq _ => ch2 q (by omega) (by omega) (by omega)) hx6)
  have p7 : Rrul τ G' := Rrul_c (hn 29 (by decide)) (ha 26 (by decide)) (ha 27 (by decide)) (ha 28 (by decide)) (Rrul_fr (fun q hq => ch2 q (by omega) (by omega) (by omega)) hx7)
  have p8 : Rflo τ G' := Rflo_c (hn 40 (by decide)) (ha 35 (by decide)) (ha 36 (by decide)) (ha 37 (by decide)) (ha 38 (by decide)) (ha 39 (by decide)) (Rflo_fr (fun q hq => ch2 q (by omega) (by omega) (by omega)) hx8)
  have p9 : Rscr G' := Rscr_fr (fun q hq => ch2 q (by omega) (by omega) (by omega)) hx9
  have g11 : ids τ pl cl N b := by
    unfold ids
    rw [hn 12 (by decide), hn 16 (by decide), hn 24 (by decide)]
    exact ⟨i1, i2, i3, i4, i5, i6, i7⟩
  exact Rx_mk g1 p2 h3 g4 g5 p6 p7 p8 p9 g10 g11
/-- how many rows each pattern has -/
def pmo (σ : MS) : Prop := ∀ p, 0 ≤ p → p < σ.1 12 → 0 ≤ σ.2 11 p ∧ σ.2 11 p ≤ 60
theorem pok_pmo {σ : MS} (h : pok σ) : pmo σ := fun p p0 p1 => (h.2 p p0 p1).1
theorem Rx_own {σ : MS} {pl cl : Int → Int} {N b p i : Int} {rg : Option Rl} {G G' : GH} (hw : Rx σ (pl, cl, N, b, rg) G) (hP : pmo σ) (hR : rok σ) (p0 : 0 ≤ p) (p1 : p < σ.1 12) (i0 : 0 ≤ i) (i1 : i < σ.2 11 p)
    (ch : ∀ q : Rl, q ≠ oR → ¬ ((14 ≤ q.1 ∧ q.1 < 18) ∧ q.2.1 = σ.1 9) → ¬ ((q.1 = 30 ∨ q.1 = 31) ∧ q.2.1 = pl p) → G' q = G q) (hO : off G' (σ.1 16) (σ.1 9 + 1) (σ.1 41) rg)
    (hr : row G' (σ.1 9) (σ.2 6 (rw_ σ p i)) (σ.2 7 (rw_ σ p i)) (fun k => σ.2 8 (60 * rw_ σ p i + k))) (hL : σ.2 6 (rw_ σ p i) ≤ 60) (hl : lst G' (pl p) (σ.2 11 p) (fun k => if k = i then some (rO (σ.1 9)) else some (rO (rw_ σ p k)))) : Rx (sOwn σ p i) (pl, cl, N, b, rg) G' := by
  have hM := hP p p0 p1
  have hm0 := hR.1.1
  have e6 : ∀ q, (sOwn σ p i).2 6 q = iset (σ.2 6) (σ.1 9) (σ.2 6 (rw_ σ p i)) q := fun _ => rfl
  have e7 : ∀ q, (sOwn σ p i).2 7 q = iset (σ.2 7) (σ.1 9) (σ.2 7 (rw_ σ p i)) q := fun _ => rfl
  have e8 : ∀ q, (sOwn σ p i).2 8 q = rfill (σ.2 8) (60 * σ.1 9) (σ.2 6 (rw_ σ p i)) (fun q => σ.2 8 (q - 60 * σ.1 9 + 60 * rw_ σ p i)) q := fun _ => rfl
  have e10 : ∀ p' k, rw_ (sOwn σ p i) p' k = iset (σ.2 10) (60 * p + i) (σ.1 9) (60 * p' + k) := fun _ _ => rfl
  have e9 : (sOwn σ p i).1 9 = σ.1 9 + 1 := rfl
  refine Rx_chp hw p0 p1 (by rw [e9]; omega) (fun k hk => if_neg hk) (fun k hk => ?_) (fun p' q0 q1 e => ⟨rfl, fun k k0 k1 => ?_⟩) (fun q q1 q2 q3 => ch q q1 (fun z => q2 (by rw [e9]; omega)) q3) hO (Rrow_up (Rx_un hw).2.2.1 (fun q q0 q1 => ?_) (fun q hq q0 q1 => ch q (fun z => by rw [z] at hq; simp only [] at hq; omega) (by omega) (by omega)) (fun q q0 q1 => ?_)) ?_
  · show (if k = 10 then _ else if k = 8 then _ else if k = 7 then _ else if k = 6 then _ else _) = _
    rw [if_neg (by omega), if_neg (by omega), if_neg (by omega), if_neg (by omega)]
  · have := hP p' q0 q1
    rw [e10]
    unfold iset
    rw [if_neg (by omega)]
    rfl
  · have hq := (hR.2 q q0 q1).1
    refine ⟨if_neg (by omega), if_neg (by omega), fun k k0 k1 => ?_⟩
    rw [e8]
    unfold rfill
    rw [if_neg (by omega)]
  · rw [e9] at q1
    have e : q = σ.1 9 := by omega
    rw [e, e6, e7]
    unfold iset
    rw [if_pos rfl, if_pos rfl]
    refine row_c (fun j j0 j1 => ?_) hr
    rw [e8]
    unfold rfill
    rw [if_pos (by omega)]
    simp only []
    rw [show 60 * σ.1 9 + j - 60 * σ.1 9 + 60 * rw_ σ p i = 60 * rw_ σ p i + j by omega]
  · refine lst_c (fun k k0 k1 => ?_) hl
    rw [e10]
    unfold iset
    by_cases e : k = i
    · rw [if_pos e, if_pos (by omega)]
    · rw [if_neg e, if_neg (by omega)]
      rfl
theorem Rx_ins {σ : MS} {pl cl : Int → Int} {N b p i off_ : Int} {n : Nat} {rg : Option Rl} {G G' : GH} (hw : Rx σ (pl, cl, N, b, rg) G) (hP : pmo σ) (hR : rok σ) (p0 : 0 ≤ p) (p1 : p < σ.1 12) (i0 : 0 ≤ i) (i1 : i ≤ σ.2 11 p) (hM6 : σ.2 11 p < 60) (hn : n ≤ 60)
    (ch : ∀ q : Rl, q ≠ oR → ¬ ((14 ≤ q.1 ∧ q.1 < 18) ∧ q.2.1 = σ.1 9) → ¬ ((q.1 = 30 ∨ q.1 = 31) ∧ q.2.1 = pl p) → G' q = G q) (hO : off G' (σ.1 16) (σ.1 9 + 1) (σ.1 41) rg)
    (hr : row G' (σ.1 9) n off_ (fun _ => 0)) (hl : lst G' (pl p) (σ.2 11 p + 1) (fun k => if k < i then some (rO (rw_ σ p k)) else if k = i then some (rO (σ.1 9)) else some (rO (rw_ σ p (k - 1))))) : Rx (sPutRow (sNew σ n off_) p i (σ.1 9)) (pl, cl, N, b, rg) G' := by
  have hM := hP p p0 p1
  have hm0 := hR.1.1
  have e6 : ∀ q, (sPutRow (sNew σ n off_) p i (σ.1 9)).2 6 q = iset (σ.2 6) (σ.1 9) n q := fun _ => rfl
  have e7 : ∀ q, (sPutRow (sNew σ n off_) p i (σ.1 9)).2 7 q = iset (σ.2 7) (σ.1 9) off_ q := fun _ => rfl
  have e8 : ∀ q, (sPutRow (sNew σ n off_) p i (σ.1 9)).2 8 q = rfill (σ.2 8) (60 * σ.1 9) n (fun _ => 0) q := fun _ => rfl
  have e10 : ∀ p' k, rw_ (sPutRow (sNew σ n off_) p i (σ.1 9)) p' k = iset (rfill (σ.2 10) (60 * p + i + 1) (σ.2 11 p - i) (fun q => σ.2 10 (q - 1))) (60 * p + i) (σ.1 9) (60 * p' + k) := fun _ _ => rfl
  have e11 : ∀ p', (sPutRow (sNew σ n off_) p i (σ.1 9)).2 11 p' = iset (σ.2 11) p (σ.2 11 p + 1) p' := fun _ => rfl
  have e9 : (sPutRow (sNew σ n off_) p i (σ.1 9)).1 9 = σ.1 9 + 1 := rfl
  refine Rx_chp hw p0 p1 (by rw [e9]; omega) (fun k hk => if_neg hk) (fun k hk => ?_) (fun p' q0 q1 e => ⟨if_neg e, fun k k0 k1 => ?_⟩) (fun q q1 q2 q3 => ch q q1 (fun z => q2 (by rw [e9]; omega)) q3) hO (Rrow_up (Rx_un hw).2.2.1 (fun q q0 q1 => ?_) (fun q hq q0 q1 => ch q (fun z => by rw [z] at hq; simp only [] at hq; omega) (by omega) (by omega)) (fun q q0 q1 => ?_)) ?_
  · show (if k = 11 then _ else if k = 10 then _ else if k = 8 then _ else if k = 7 then _ else if k = 6 then _ else _) = _
    rw [if_neg (by omega), if_neg (by omega), if_neg (by omega), if_neg (by omega), if_neg (by omega)]
  · have := hP p' q0 q1
    rw [e10]
    unfold iset rfill
    rw [if_neg (by omega), if_neg (by omega)]
    rfl
  · have hq := (hR.2 q q0 q1).1
    refine ⟨if_neg (by omega), if_neg (by omega), fun k k0 k1 => ?_⟩
    rw [e8]
    unfold rfill
    rw [if_neg (by omega)]
  · rw [e9] at q1
    have e : q = σ.1 9 := by omega
    rw [e, e6, e7]
    unfold iset
    rw [if_pos rfl, if_pos rfl]
    refine row_c (fun j j0 j1 => ?_) hr
    rw [e8]
    unfold rfill
    rw [if_pos (by omega)]
  · rw [e11]
    unfold iset
    rw [if_pos rfl]
    refine lst_c (fun k k0 k1 => ?_) hl
    rw [e10]
    unfold iset rfill
    by_cases c : k < i
    · rw [if_pos c, if_neg (by omega), if_neg (by omega)]
      rfl
    · rw [if_neg c]
      by_cases e : k = i
      · rw [if_pos e, if_pos (by omega)]
      · rw [if_neg e, if_neg (by omega), if_pos (by omega)]
        simp only []
        rw [show 60 * p + k - 1 = 60 * p + (k - 1) by omega]
        rfl
theorem Rrow_s {σ τ : MS} {G G' : GH} (e9 : τ.1 9 = σ.1 9) (e6 : τ.2 6 = σ.2 6) (e7 : τ.2 7 = σ.2 7) (e8 : τ.2 8 = σ.2 8) (hf : ∀ q : Rl, (14 ≤ q.1 ∧ q.1 < 18) → G' q = G q) (h : Rrow σ G) : Rrow τ G' := Rrow_c e9 e6 e7 e8 (Rrow_fr (fun q q1 _ _ => hf q q1) h)
theorem Rx_take {σ : MS} {pl cl : Int → Int} {N b p i : Int} {rg : Option Rl} {G G' : GH} (hw : Rx σ (pl, cl, N, b, rg) G) (hP : pmo σ) (p0 : 0 ≤ p) (p1 : p < σ.1 12) (i0 : 0 ≤ i) (i1 : i < σ.2 11 p) (fr : lfr (pl p) G G')
    (hl : lst G' (pl p) (σ.2 11 p - 1) (fun k => if k < i then some (rO (rw_ σ p k)) else some (rO (rw_ σ p (k + 1))))) : Rx (sTake σ p i) (pl, cl, N, b, rg) G' := by
  have hM := hP p p0 p1
  have e10 : ∀ p' k, rw_ (sTake σ p i) p' k = rfill (σ.2 10) (60 * p + i) (σ.2 11 p - 1 - i) (fun q => σ.2 10 (q + 1)) (60 * p' + k) := fun _ _ => rfl
  have e11 : ∀ p', (sTake σ p i).2 11 p' = iset (σ.2 11) p (σ.2 11 p - 1) p' := fun _ => rfl
  refine Rx_chp hw p0 p1 (Int.le_refl _) (fun k hk => rfl) (fun k hk => ?_) (fun p' q0 q1 e => ⟨if_neg e, fun k k0 k1 => ?_⟩) (fun q q1 q2 q3 => fr q q3) ((fr oR (by simp only []; omega)).trans (Rx_un hw).1) (Rrow_s rfl rfl rfl rfl (fun q q1 => fr q (by omega)) (Rx_un hw).2.2.1) ?_
  · show (if k = 11 then _ else if k = 10 then _ else _) = _
    rw [if_neg (by omega), if_neg (by omega)]
  · have := hP p' q0 q1
    rw [e10]
    unfold rfill
    rw [if_neg (by omega)]
    rfl
  · rw [e11]
    unfold iset
    rw [if_pos rfl]
    refine lst_c (fun k k0 k1 => ?_) hl
    rw [e10]
    unfold rfill
    by_cases c : k < i
    · rw [if_pos c, if_neg (by omega)]
      rfl
    · rw [if_neg c, if_pos (by omega)]
      simp only []
      rw [Int.add_assoc]
      rfl
theorem Rx_putr {σ : MS} {pl cl : Int → Int} {N b p i r : Int} {rg : Option Rl} {G G' : GH} (hw : Rx σ (pl, cl, N, b, rg) G) (hP : pmo σ) (p0 : 0 ≤ p) (p1 : p < σ.1 12) (i0 : 0 ≤ i) (i1 : i ≤ σ.2 11 p) (hM6 : σ.2 11 p < 60) (fr : lfr (pl p) G G')
    (hl : lst G' (pl p) (σ.2 11 p + 1) (fun k => if k < i then some (rO (rw_ σ p k)) else if k = i then some (rO r) else some (rO (rw_ σ p (k - 1))))) : Rx (sPutRow σ p i r) (pl, cl, N, b, rg) G' := by
  have hM := hP p p0 p1
  have e10 : ∀ p' k, rw_ (sPutRow σ p i r) p' k = iset (rfill (σ.2 10) (60 * p + i + 1) (σ.2 11 p - i) (fun q => σ.2 10 (q - 1))) (60 * p + i) r (60 * p' + k) := fun _ _ => rfl
  have e11 : ∀ p', (sPutRow σ p i r).2 11 p' = iset (σ.2 11) p (σ.2 11 p + 1) p' := fun _ => rfl
  refine Rx_chp hw p0 p1 (Int.le_refl _) (fun k hk => rfl) (fun k hk => ?_) (fun p' q0 q1 e => ⟨if_neg e, fun k k0 k1 => ?_⟩) (fun q q1 q2 q3 => fr q q3) ((fr oR (by simp only []; omega)).trans (Rx_un hw).1) (Rrow_s rfl rfl rfl rfl (fun q q1 => fr q (by omega)) (Rx_un hw).2.2.1) ?_
  · show (if k = 11 then _ else if k = 10 then _ else _) = _
    rw [if_neg (by omega), if_neg (by omega)]
  · have := hP p' q0 q1
    rw [e10]
    unfold iset rfill
    rw [if_neg (by omega), if_neg (by omega)]
    rfl
  · rw [e11]
    unfold iset
    rw [if_pos rfl]
    refine lst_c (fun k k0 k1 => ?_) hl
    rw [e10]
    unfold iset rfill
    by_cases c : k < i
    · rw [if_pos c, if_neg (by omega), if_neg (by omega)]
      rfl
    · rw [if_neg c]
      by_cases e : k = i
      · rw [if_pos e, if_pos (by omega)]
      · rw [if_neg e, if_neg (by omega), if_pos (by omega)]
        simp only []
        rw [show 60 * p + k - 1 = 60 * p + (k - 1) by omega]
        rfl
/-- one cell of a row changes -/
theorem Rx_set {σ : MS} {pl cl : Int → Int} {N b p q x c : Int} {rg : Option Rl} {G G' : GH} (hw : Rx σ (pl, cl, N, b, rg) G) (hR : ∀ r, 0 ≤ r → r < σ.1 9 → 0 ≤ σ.2 6 r ∧ σ.2 6 r ≤ 60) (p0 : 0 ≤ p) (p1 : p < σ.1 12) (q0 : 0 ≤ q) (q1 : q < σ.1 9) (x0 : 0 ≤ x) (x1 : x < σ.2 6 q) (fr : rfr q G G')
    (hr : row G' q (σ.2 6 q) (σ.2 7 q) (iset (fun k => σ.2 8 (60 * q + k)) x c)) : Rx (au σ 8 (iset (σ.2 8) (60 * q + x) c)) (pl, cl, N, b, rg) G' := by
  have e8 : ∀ z, (au σ 8 (iset (σ.2 8) (60 * q + x) c)).2 8 z = iset (σ.2 8) (60 * q + x) c z := fun _ => rfl
  obtain ⟨hx1, hx2, hx3, hx4, hx5, hx6, hx7, hx8, hx9, hx10, hx11⟩ := Rx_un hw
  have hq := hR q q0 q1
  refine Rx_chp hw p0 p1 (Int.le_refl _) (fun k hk => rfl) (fun k hk => if_neg (by omega)) (fun p' q0 q1 e => ⟨rfl, fun k k0 k1 => rfl⟩) (fun z z1 z2 z3 => fr z (fun y => z2 (by have e9 : (au σ 8 (iset (σ.2 8) (60 * q + x) c)).1 9 = σ.1 9 := rfl; rw [e9]; omega))) ((fr oR (by simp only []; omega)).trans hx1) (fun z z0 z1 => ?_) (lst_of_fr (fun z z1 _ => fr z (by omega)) (hx4.2 p p0 p1).2)
  show row G' z (σ.2 6 z) (σ.2 7 z) _
  by_cases e : z = q
  · rw [e]
    refine row_c (fun j j0 j1 => ?_) hr
    rw [e8]
    unfold iset
    by_cases e2 : j = x
    · rw [if_pos e2, if_pos (by omega)]
    · rw [if_neg e2, if_neg (by omega)]
  · have hz := hR z z0 z1
    refine row_c (fun j j0 j1 => ?_) (row_e (fun t t0 t1 => fr _ (by simp only []; omega)) (hx3 z z0 z1))
    rw [e8]
    unfold iset
    rw [if_neg (by omega)]
