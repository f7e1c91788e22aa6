set_option maxRecDepth 10000
theorem Rreg_turn {σ τ : MS} {G' : GH} {N m : Int} {H W H' W' : Nat} {fk fm fs gk gm gs : Int → Int → Int} (hK : kok σ) (hG : gok σ) (hm : 0 ≤ m ∧ m < 8) (g0 : σ.1 24 ≠ 0) (eH : (H : Int) = σ.1 24) (eW : (W : Int) = σ.1 25) (eH' : (H' : Int) = mvR m H W) (eW' : (W' : Int) = mvC m H W)
    (e20 : τ.2 20 = rfill (σ.2 20) 0 (σ.1 24 * σ.1 25) (tc_ σ m)) (e22 : τ.2 22 = rfill (σ.2 22) 0 (σ.1 24 * σ.1 25) (ti_ σ m)) (e24 : τ.1 24 = mvR m (σ.1 24) (σ.1 25)) (e25 : τ.1 25 = mvC m (σ.1 24) (σ.1 25))
    (hc : ∀ i j : Int, 0 ≤ i → i < H → 0 ≤ j → j < W → fk i j = (if σ.2 22 (i * W + j) = 0 then -2 else cdat (σ.2 20 (i * W + j)) 0) ∧ fm i j = cdat (σ.2 20 (i * W + j)) 1 ∧ fs i j = cdat (σ.2 20 (i * W + j)) 2) (b4 : blo G' N H' W' gk gm gs)
    (hq : ∀ y x : Int, 0 ≤ y → y < H' → 0 ≤ x → x < W' → gk y x = fk (cfI m H y x) (cfJ m W y x) ∧ gm y x = (if fk (cfI m H y x) (cfJ m W y x) < 0 then 0 else lie (σ.2 3 (fk (cfI m H y x) (cfJ m W y x))) (σ.2 1 (fk (cfI m H y x) (cfJ m W y x))) (thn (fm (cfI m H y x) (cfJ m W y x)) m)) ∧ gs y x = fs (cfI m H y x) (cfJ m W y x)) : Rreg τ G' (some (33, N, 0)) N := by
  obtain ⟨hg1, hg2⟩ := hG
  have hdim : (1 ≤ H ∧ H ≤ 20) ∧ (1 ≤ W ∧ W ≤ 20) := by omega
  have hHW : (H' : Int) * W' = H * W := by
    rw [eH', eW']
    unfold mvR mvC
    split
    · rfl
    · exact Int.mul_comm _ _
  have h1' : 1 ≤ (H' : Int) ∧ 1 ≤ (W' : Int) := by
    rw [eH', eW']
    unfold mvR mvC
    split <;> omega
  refine Or.inr ⟨?_, rfl, H', W', gk, gm, gs, ?_, ?_, b4, fun y x y0 y1 x0 x1 => ?_⟩
  · rw [e24, ← eH, ← eW, ← eH']
    omega
  · rw [e24, eH', eH, eW]
  · rw [e25, eW', eH, eW]
  · obtain ⟨⟨ci0, ci1⟩, cj0, cj1⟩ := cf_r (r := (H : Int)) (c := (W : Int)) hm y0 (by omega) x0 (show x < mvC m H W by omega)
    obtain ⟨q1, q2, q3⟩ := hq y x y0 y1 x0 x1
    obtain ⟨c1, c2, c3⟩ := hc _ _ ci0 ci1 cj0 cj1
    have hyW : 0 ≤ y * (W' : Int) := Int.mul_nonneg y0 (by omega)
    have hyW2 : (y + 1) * (W' : Int) ≤ H' * W' := Int.mul_le_mul (by omega) (by omega) (by omega) (by omega)
    rw [Int.add_mul, hHW] at hyW2
    have hz0 : 0 ≤ cfI m H y x * (W : Int) := Int.mul_nonneg ci0 (by omega)
    have hz1 : (cfI m H y x + 1) * (W : Int) ≤ H * W := Int.mul_le_mul (by omega) (by omega) (by omega) (by omega)
    rw [Int.add_mul] at hz1
    obtain ⟨d1, d2⟩ := dv_m (y := y) (x := x) (W := (W' : Int)) ⟨x0, x1⟩
    have hgc := hg2 (cfI m H y x * (W : Int) + cfJ m W y x) (by omega) (by rw [← eH, ← eW]; omega)
    have e20' : τ.2 20 (y * W' + x) = mvd σ (σ.2 20 (cfI m H y x * W + cfJ m W y x)) m := by
      rw [e20]
      unfold rfill tc_
      rw [if_pos (by rw [← eH, ← eW]; omega), ← eH, ← eW, ← eW', d1, d2]
    have e22' : τ.2 22 (y * W' + x) = σ.2 22 (cfI m H y x * W + cfJ m W y x) := by
      rw [e22]
      unfold rfill ti_
      rw [if_pos (by rw [← eH, ← eW]; omega), ← eH, ← eW, ← eW', d1, d2]
    rw [e20', e22', q1, q2, q3, c1, c2, c3]
    generalize σ.2 20 (cfI m H y x * (W : Int) + cfJ m W y x) = c at *
    generalize σ.2 22 (cfI m H y x * (W : Int) + cfJ m W y x) = s at *
    by_cases zs : s = 0
    · rw [if_pos zs, if_pos zs, hgc.2 zs, cd_mv0, if_pos (by decide)]
      exact ⟨rfl, rfl, rfl⟩
    · rw [if_neg zs, if_neg zs]
      by_cases zc : c = 0
      · rw [zc, cd_mv0]
        exact ⟨rfl, rfl, rfl⟩
      · obtain ⟨k1, k2, k3, -⟩ := cd_mv hK hgc.1 zc hm
        obtain ⟨n1, n2, n3⟩ := cd_n zc
        have hk0 := isC_k hgc.1 zc
        rw [k1, k2, k3, n1, n2, n3, if_neg (by omega)]
        exact ⟨rfl, rfl, rfl⟩
/-- one rule's blocks change -/
theorem Rx_rul {σ τ : MS} {pl cl : Int → Int} {N b r : Int} {rg : Option Rl} {H W : Nat} {G G' : GH} (hw : Rx σ (pl, cl, N, b, rg) G) (hQ : qok σ) (r0 : 0 ≤ r) (r1 : r < σ.1 29) (hn : ∀ k, τ.1 k = σ.1 k) (ha : ∀ k, k ≠ 28 → τ.2 k = σ.2 k)
    (old : ∀ r' k i j, r' ≠ r → 0 ≤ r' → r' < σ.1 29 → 0 ≤ k → k < 40 → 0 ≤ i → i < 4 → 0 ≤ j → j < 4 → uB τ r' k i j = uB σ r' k i j) (eH : (H : Int) = σ.2 26 r) (eW : (W : Int) = σ.2 27 r)
    (ch0 : ∀ q : Rl, ¬ (7 ≤ q.1 ∧ q.1 < 10) → ¬ (q.1 = 21 ∧ q.2.1 = r) → ¬ ((33 ≤ q.1 ∧ q.1 < 38) ∧ -(40 * r + 40) ≤ q.2.1 ∧ q.2.1 ≤ -1 - 40 * r) → G' q = G q) (p9 : Rscr G') (hu : rul G' r H W (uB τ r)) : Rx τ (pl, cl, N, b, rg) G' := by
  have ch : ∀ q : Rl, ¬ (q.1 = 21 ∧ q.2.1 = r) → ¬ ((33 ≤ q.1 ∧ q.1 < 38) ∧ -(40 * r + 40) ≤ q.2.1 ∧ q.2.1 ≤ -1 - 40 * r) → (¬ (7 ≤ q.1 ∧ q.1 < 10)) → G' q = G q := fun q q1 q2 q3 => ch0 q q3 q1 q2
  obtain ⟨hx1, hx2, hx3, hx4, hx5, hx6, hx7, hx8, hx9, hx10, hx11⟩ := Rx_un hw
  obtain ⟨i1, i2, i3, i4, i5, i6, i7⟩ := hx11
  have g1 : off G' (τ.1 16) (τ.1 9) (τ.1 41) rg := by
    rw [hn 16, hn 9, hn 41]
    exact (ch _ (by simp only []; omega) (by simp only []; omega) (by simp only []; omega)).trans hx1
  have g4 : Rpat τ G' pl := by
    have h4 : Rpat σ G' pl := Rpat_fr (fun p _ _ => ch _ (by simp only []; omega) (by simp only []; omega) (by simp only []; omega)) (fun q hq _ => ch q (by omega) (by omega) (by omega)) (fun p p0 p1 q hq e => ch q (by omega) (by omega) (by omega)) hx4
    unfold Rpat rw_ at *
    rw [hn 12, ha 10 (by decide), ha 11 (by decide)]
    exact h4
  have g5 : Rchg τ G' cl := Rchg_c (hn 16) (hn 17) (ha 13 (by decide)) (ha 14 (by decide)) (ha 15 (by decide)) (Rchg_fr (ch _ (by simp only []; omega) (by simp only []; omega) (by simp only []; omega)) (fun _ _ _ => ch _ (by simp only []; omega) (by simp only []; omega) (by simp only []; omega)) (fun t t0 t1 q hq e => ch q (by omega) (by omega) (by omega)) hx5)
  have g6 : Rreg τ G' rg b := by
    refine Rreg_c (hn 24) (hn 25) (ha 20 (by decide)) (ha 22 (by decide)) ?_
    rcases hx6 with h | ⟨h1, h2, H', W', fk, fm, fs, h3, h4, h5, h6⟩
    · exact Or.inl h
    · exact Or.inr ⟨h1, h2, H', W', fk, fm, fs, h3, h4, blo_fr (fun q q1 q2 => ch q (by omega) (by omega) (by omega)) h5, h6⟩
  have g7 : Rrul τ G' := by
    refine ⟨?_, fun r' q0 q1 => ?_⟩
    · rw [hn 29]
      exact lst_of_fr (fun q q1 q2 => ch q (by omega) (by omega) (by omega)) hx7.1
    · rw [hn 29] at q1
      rw [ha 26 (by decide), ha 27 (by decide)]
      by_cases e : r' = r
      · rw [e]
        exact ⟨H, W, eH, eW, hu⟩
      · obtain ⟨H', W', e1, e2, hr⟩ := hx7.2 r' q0 q1
        have hb := hQ.2 r' q0 q1
        refine ⟨H', W', e1, e2, rul_c (fun k i j k0 k1 i0 i1 j0 j1 => old r' k i j e q0 q1 k0 k1 i0 (by omega) j0 (by omega)) (rul_fr (ch _ (by simp only []; omega) (by simp only []; omega) (by simp only []; omega)) (ch _ (by simp only []; omega) (by simp only []; omega) (by simp only []; omega)) (fun k k0 k1 q z1 z2 => ch q (by omega) (by have z3 : q.2.1 = -1 - (40 * r' + k) := z2; omega) (by omega)) hr)⟩
  have g10 : fre τ N G' := fre_ch (σ := σ) (k := σ.1 5) (m := σ.1 9) (p := σ.1 12) (r := σ.1 29) (f := σ.1 40) (hn 5) (hn 9) (hn 12) (hn 29) (hn 40) (Int.le_refl _) (Int.le_refl _) (Int.le_refl _) (Int.le_refl _) (Int.le_refl _) (Int.le_refl _) (fun q hq => ch q (by unfold frq at hq; omega) (by unfold frq at hq; omega) (by unfold frq at hq; omega)) hx10
  have g11 : ids τ pl cl N b := by
    unfold ids
    rw [hn 12, hn 16, hn 24]
    exact ⟨i1, i2, i3, i4, i5, i6, i7⟩
  have p2 : Rkin τ G' := Rkin_c (hn 5) (ha 0 (by decide)) (ha 1 (by decide)) (ha 2 (by decide)) (ha 3 (by decide)) (ha 4 (by decide)) (Rkin_fr2 (fun q hq => ch q (by omega) (by omega) (by omega)) hx2)
  have p3 : Rrow τ G' := Rrow_c (hn 9) (ha 6 (by decide)) (ha 7 (by decide)) (ha 8 (by decide)) (Rrow_fr (fun q hq _ _ => ch q (by omega) (by omega) (by omega)) hx3)
  have p8 : Rflo τ G' := Rflo_c (hn 40) (ha 35 (by decide)) (ha 36 (by decide)) (ha 37 (by decide)) (ha 38 (by decide)) (ha 39 (by decide)) (Rflo_fr (fun q hq => ch q (by omega) (by omega) (by omega)) hx8)
  exact Rx_mk g1 p2 p3 g4 g5 g6 g7 p8 p9 g10 g11
theorem rul_put {G G' : GH} {r k : Int} {H W : Nat} {B B' : Int → Int → Int → Int} {fk fm fs gk gm gs : Int → Int → Int} (hu : rul G r H W B) (hb : blo G (bid r k) H W gk gm gs) (fr : ∀ q : Rl, ¬ ((33 ≤ q.1 ∧ q.1 < 38) ∧ q.2.1 = bid r k) → G' q = G q) (hb' : blo G' (bid r k) H W fk fm fs)
    (hB : ∀ i j : Int, 0 ≤ i → i < H → 0 ≤ j → j < W → fk i j = cdat (B' k i j) 0 ∧ fm i j = cdat (B' k i j) 1) (old : ∀ k' i j : Int, k' ≠ k → 0 ≤ k' → k' < 40 → 0 ≤ i → i < H → 0 ≤ j → j < W → B' k' i j = B k' i j) : rul G' r H W B' := by
  obtain ⟨hO, g, hA, hg⟩ := hu
  refine ⟨(fr _ (by simp only []; omega)).trans hO, g, (fr _ (by simp only []; omega)).trans hA, fun k' k0 k1 => ?_⟩
  by_cases e : k' = k
  · rcases hg k' k0 k1 with ⟨p1, p2, p3⟩ | ⟨p1, -⟩
    · have := p2 33 0 (by omega) (by omega)
      rw [e] at this
      rw [hb.1] at this
      cases this
    · rw [e] at p1 ⊢
      exact Or.inr ⟨p1, fk, fm, fs, hb', hB⟩
  · have hf : ∀ q : Rl, (33 ≤ q.1 ∧ q.1 < 38) → q.2.1 = bid r k' → G' q = G q := fun q q1 q2 => fr q (fun z => by have z3 : q.2.1 = -1 - (40 * r + k) := z.2; have z4 : q.2.1 = -1 - (40 * r + k') := q2; omega)
    rcases hg k' k0 k1 with ⟨p1, p2, p3⟩ | ⟨p1, fk, fm, fs, p2, p3⟩
    · exact Or.inl ⟨p1, fun t z t0 t1 => (hf _ ⟨t0, t1⟩ rfl).trans (p2 t z t0 t1), fun i j i0 i1 j0 j1 => (old k' i j e k0 k1 i0 i1 j0 j1).trans (p3 i j i0 i1 j0 j1)⟩
    · refine Or.inr ⟨p1, fk, fm, fs, blo_fr hf p2, fun i j i0 i1 j0 j1 => ?_⟩
      rw [old k' i j e k0 k1 i0 i1 j0 j1]
      exact p3 i j i0 i1 j0 j1
section
variable {M : tv_M} {pc : Nat} {L : List (Option XV)} {st : List XV} {d : Nat} {K : Option XV → GH → Prop} {G0 G : GH} {bc bs : Nat} {σ : MS} {w : RW}
/-- what lies in arrays is in their range -/
theorem w_rtA (kk : (∀ (r : Rl) (t n : Nat) (f : Int → Int), G r = some (xar t n f) → ∀ i, tv_rt t (f i)) → tvW M d K pc L st G bc bs) : tvW M d K pc L st G bc bs := by
  intro O ad0 G0 p l e R s m args below meth c Q E ad dom H locs cells slots ls S
  have hR := S.1
  exact kk (fun r t n f hG => (hR.2.2.2.1 r _ hG).2) O ad0 G0 p l e R s m args below meth c Q E ad dom H locs cells slots ls S
theorem c_X0_turn {m : Int} (hw : Rx σ w G) (hK : kok σ) (hG : gok σ) (hr0 : 0 ≤ σ.1 29) (h1 : σ.1 24 ≠ 0 ∧ 0 ≤ m ∧ m < 8 → ∀ G', tfr G G' → (∀ (f g : Int → Int) (x y : Int), Rel (nu (nu (nu (nu (au (au (au (au σ 20 (rfill (σ.2 20) 0 (σ.1 24 * σ.1 25) (tc_ σ m))) 21 f) 22 (rfill (σ.2 22) 0 (σ.1 24 * σ.1 25) (ti_ σ m))) 23 g) 18 x) 19 y) 24 (mvR m (σ.1 24) (σ.1 25))) 25 (mvC m (σ.1 24) (σ.1 25))) G') → K (some (xI 1)) G') (h0 : ¬ (σ.1 24 ≠ 0 ∧ 0 ≤ m ∧ m < 8) → K (some (xI 0)) G) : tvW mX0_turn (d + 7) K 0 [some (xR oR), some (xI m)] [] G 64 1263 := by
  obtain ⟨pl, cl, N, b, rg⟩ := w
  obtain ⟨hx1, hx2, hx3, hx4, hx5, hx6, hx7, hx8, hx9, hx10, hx11⟩ := Rx_un hw
  have hof := hx1
  unfold off at hof
  have hN := hx11.1
  have bad : ¬ (σ.1 24 ≠ 0 ∧ 0 ≤ m ∧ m < 8) → tvW mX0_turn (d + 7) K 14 [some (xR oR), some (xI m)] [] G 64 1263 := by
    intro q
    refine w_iconst (pc' := 15) dX0_turn_14 rfl (by decide) ?_
    -- at 15: .ireturn
    refine w_zreturn dX0_turn_15 rfl (by first | exact Or.inl rfl | exact Or.inr rfl | omega) ?_
    exact h0 q
  rcases hx6 with ⟨g0, rfl⟩ | ⟨g0, rfl, H, W, fk, fm, fs, eH, eW, hb, hc⟩
  · refine w_aload_n (pc' := 1) dX0_turn_0 rfl rfl ?_
    refine w_get 8 (pc' := 4) dX0_turn_1 rfl fX0_203_0 hof rfl ?_
    -- at 4: .ifnull 10
    refine w_ifnull (pc' := 7) (tgt := 14) dX0_turn_4 rfl rfl (fun h_ => ?_) (fun h_ => False.elim (h_ rfl))
    exact bad (fun q => q.1 g0)
  · refine w_aload_n (pc' := 1) dX0_turn_0 rfl rfl ?_
    refine w_get 8 (pc' := 4) dX0_turn_1 rfl fX0_203_0 hof rfl ?_
    -- at 4: .ifnull 10
    refine w_ifnull (pc' := 7) (tgt := 14) dX0_turn_4 rfl rfl (fun h_ => False.elim (nomatch h_)) (fun h_ => ?_)
    refine w_iload_n (pc' := 8) dX0_turn_7 rfl rfl ?_
    -- at 8: .invokestatic 106
    refine w_callS1 (pc' := 11) (mc := 0) (ms := 0) dX0_turn_8 rfl tX0_isMove q324 q323 rfl (Nat.le_of_ble_eq_true rfl) (Nat.le_of_ble_eq_true rfl) ?_
    refine c_X0_isMove (fun m0 m1 => w_p1 ?_) (fun g => w_p1 ?_)
    · refine w_if_ne (pc' := 14) (tgt := 16) dX0_turn_11 rfl rfl (fun h_ => ?_) (fun h_ => False.elim (by first | omega | (simp (decide := true) only [au_1, nu_2, au_lt, nu_lt, aw_e, nw_e, au_s, au_n, nu_s, nu_n, au_au, nu_nu, au_nu] at h_; omega)))
      have hg1 := hG.1
      have hg2 := hG.2
      have hbb := hx11.2.1
      have hk1 := hK.1
      have hdim : (1 ≤ H ∧ H ≤ 20) ∧ (1 ≤ W ∧ W ≤ 20) := by omega
      have hn : ∀ (t : Nat) (z : Int), 33 ≤ t → t < 38 → G (t, N, z) = none := fun t z t0 t1 => fre_iff.mp hx10 _ (Or.inl ⟨by simp only []; omega, by simp only []; omega, Int.le_refl _⟩)
      refine w_rtA (fun rt => ?_)
      have hcr : ∀ i j : Int, 0 ≤ i → i < H → 0 ≤ j → j < W → (-2 ≤ fk i j ∧ fk i j < σ.1 5) ∧ (0 ≤ fm i j ∧ fm i j < 8) ∧ (-32768 ≤ fs i j ∧ fs i j ≤ 32767) := by
        intro i j i0 i1 j0 j1
        have hyW : 0 ≤ i * (W : Int) := Int.mul_nonneg i0 (by omega)
        have hyW2 : (i + 1) * (W : Int) ≤ H * W := Int.mul_le_mul (by omega) (by omega) (by omega) (by omega)
        rw [Int.add_mul] at hyW2
        obtain ⟨c1, c2, -⟩ := hc i j i0 i1 j0 j1
        have hci := (hg2 (i * W + j) (by omega) (by rw [← eH, ← eW]; omega)).1
        have hs : -32768 ≤ fs i j ∧ fs i j ≤ 32767 := by
          obtain ⟨gs, gs1, gs2⟩ := (hb.2.2.2.2 i i0 i1).2.2
          rw [← gs2 j j0 j1]
          exact rt _ _ _ _ gs1 j
        refine ⟨?_, ?_, hs⟩
        · rw [c1]
          by_cases z : σ.2 20 (i * W + j) = 0
          · rw [(cd_0 z).1]
            split <;> omega
          · have := isC_k hci z
            rw [(cd_n z).1]
            split <;> omega
        · rw [c2]
          by_cases z : σ.2 20 (i * W + j) = 0
          · rw [(cd_0 z).2.1]
            omega
          · rw [(cd_n z).2.1]
            exact mOf_r
      refine w_aload_n (pc' := 17) dX0_turn_16 rfl rfl ?_
      refine w_aload_n (pc' := 18) dX0_turn_17 rfl rfl ?_
      refine w_get 8 (pc' := 21) dX0_turn_18 rfl fX0_203_0 hof rfl ?_
      refine w_iload_n (pc' := 22) dX0_turn_21 rfl rfl ?_
      refine w_aload_n (pc' := 23) dX0_turn_22 rfl rfl ?_
      -- at 23: .invokevirtual 215
      refine w_callV2 (pc' := 26) (mc := 64) (ms := 1263) dX0_turn_23 rfl tX7_moved q577 rfl rfl q578 q576 hb.1 rfl (Nat.le_of_ble_eq_true rfl) (Nat.le_of_ble_eq_true rfl) ?_
      refine c_X7_moved hb hx1 hx2 hK ⟨m0, m1⟩ hdim.1 hdim.2 hcr (by omega) hn (fun G1 H' W' gk gm gs eH' eW' fr1 b1' hq => w_p1 ?_)
      have hof := (fr1 oR (by simp only []; omega)).trans hof
      refine w_put 8 (pc' := 29) dX0_turn_26 rfl pX0_203_0 (by decide) hof (Nat.le_of_ble_eq_true rfl) trivial ?_
      -- at 29: .iconst 1
      refine w_upd (fun G2 a2 f2 => ?_)
      refine w_iconst (pc' := 30) dX0_turn_29 rfl (by decide) ?_
      -- at 30: .ireturn
      refine w_zreturn dX0_turn_30 rfl (by first | exact Or.inl rfl | exact Or.inr rfl | omega) ?_
      have ch : ∀ q : Rl, q ≠ oR → ¬ ((33 ≤ q.1 ∧ q.1 < 38) ∧ q.2.1 = N) → G2 q = G q := fun q q1 q2 => (f2 q q1).trans (fr1 q q2)
      have b2 : blo G2 N H' W' gk gm gs := blo_fr (fun q z1 z2 => f2 q (fun z => by rw [z] at z1; simp only [] at z1; omega)) b1'
      refine h1 ⟨g0, m0, m1⟩ G2 (fun q hq => ch q (fun z => by rw [z] at hq; simp only [] at hq; omega) (by omega)) (fun f g x y => ⟨_, Rx_reg hw hr0 (fun k k1 k2 k3 k4 => ?_) (fun k hk => ?_) ch a2 (Rreg_turn hK hG ⟨m0, m1⟩ g0 eH eW eH' eW' rfl rfl rfl rfl hc b2 hq)⟩)
      · show (if k = 25 then _ else if k = 24 then _ else if k = 19 then _ else if k = 18 then _ else _) = _
        rw [if_neg k4, if_neg k3, if_neg k2, if_neg k1]
        rfl
      · show (if k = 23 then _ else if k = 22 then _ else if k = 21 then _ else if k = 20 then _ else _) = _
        rw [if_neg (by omega), if_neg (by omega), if_neg (by omega), if_neg (by omega)]
    · refine w_if_ne (pc' := 14) (tgt := 16) dX0_turn_11 rfl rfl (fun h_ => False.elim (by first | omega | (simp (decide := true) only [au_1, nu_2, au_lt, nu_lt, aw_e, nw_e, au_s, au_n, nu_s, nu_n, au_au, nu_nu, au_nu] at h_; omega))) (fun h_ => ?_)
      exact bad (fun q => g q.2)
theorem c_X0_becomes {r k i j o m : Int} (hw : Rx σ w G) (hK : kok σ) (hQ : qok σ) (h1 : becOk σ r k i j o m → ∀ G', tfr G G' → Rel (au σ 28 (iset (σ.2 28) (640 * r + 16 * k + 4 * i + j) (pcel σ o m))) G' → K (some (xI 1)) G') (h0 : ¬ becOk σ r k i j o m → K (some (xI 0)) G) : tvW mX0_becomes (d + 7) K 0 [some (xR oR), some (xI r), some (xI k), some (xI i), some (xI j), some (xI o), some (xI m), none, none] [] G 16 63 := by
  have hof := hw.1
  unfold off at hof
  unfold becOk at h1 h0
  have hk1 := hK.1
  have bad : ∀ z, ¬ ((0 ≤ r ∧ r < σ.1 29) ∧ (0 ≤ k ∧ k < σ.1 5) ∧ (0 ≤ i ∧ i < σ.2 26 r) ∧ (0 ≤ j ∧ j < σ.2 27 r) ∧ (o = -1 ∨ (0 ≤ o ∧ o < σ.1 5) ∧ 0 ≤ m ∧ m < 8)) → tvW mX0_becomes (d + 7) K 71 [some (xR oR), some (xI r), some (xI k), some (xI i), some (xI j), some (xI o), some (xI m), some (xO z), none] [] G 16 63 := by
    intro z q
    refine w_iconst (pc' := 72) dX0_becomes_71 rfl (by decide) ?_
    -- at 72: .ireturn
    refine w_zreturn dX0_becomes_72 rfl (by first | exact Or.inl rfl | exact Or.inr rfl | omega) ?_
    exact h0 q
  refine w_aload_n (pc' := 1) dX0_becomes_0 rfl rfl ?_
  refine w_iload_n (pc' := 2) dX0_becomes_1 rfl rfl ?_
  -- at 2: .invokevirtual 225
  refine w_callV1 (pc' := 5) (mc := 0) (ms := 0) dX0_becomes_2 rfl tX0_rule_2 q636 rfl rfl qs10 q634 hof rfl (Nat.le_of_ble_eq_true rfl) (Nat.le_of_ble_eq_true rfl) ?_
  refine c_X0_rule_2 hw (fun r0 r1 => w_p1 ?_) (fun g => w_p1 ?_)
  · obtain ⟨pl, cl, N, b, rg⟩ := w
    obtain ⟨hx1, hx2, hx3, hx4, hx5, hx6, hx7, hx8, hx9, hx10, hx11⟩ := Rx_un hw
    obtain ⟨H, W, eH, eW, hu⟩ := hx7.2 r r0 r1
    have hq := hQ.2 r r0 r1
    have hro := hu.1
    refine w_ast7 (pc' := 7) dX0_becomes_5 rfl rfl ?_
    refine w_aload (pc' := 9) dX0_becomes_7 rfl rfl ?_
    -- at 9: .ifnull 62
    refine w_ifnull (pc' := 12) (tgt := 71) dX0_becomes_9 rfl rfl (fun h_ => False.elim (nomatch h_)) (fun h_ => ?_)
    refine w_aload_n (pc' := 13) dX0_becomes_12 rfl rfl ?_
    refine w_iload_n (pc' := 14) dX0_becomes_13 rfl rfl ?_
    -- at 14: .invokevirtual 102
    refine w_callV1 (pc' := 17) (mc := 0) (ms := 0) dX0_becomes_14 rfl tX0_isKind q321 rfl rfl qs3 q319 hof rfl (Nat.le_of_ble_eq_true rfl) (Nat.le_of_ble_eq_true rfl) ?_
    refine c_X0_isKind hw (fun k0 k1 => w_p1 ?_) (fun g => w_p1 ?_)
    · refine w_if_eq (pc' := 20) (tgt := 71) dX0_becomes_17 rfl rfl (fun h_ => False.elim (by first | omega | (simp (decide := true) only [au_1, nu_2, au_lt, nu_lt, aw_e, nw_e, au_s, au_n, nu_s, nu_n, au_au, nu_nu, au_nu] at h_; omega))) (fun h_ => ?_)
      refine w_iload_n (pc' := 21) dX0_becomes_20 rfl rfl ?_
      -- at 21: .ifCond .lt 50
      refine w_if_lt (pc' := 24) (tgt := 71) dX0_becomes_21 rfl rfl (fun q1 => ?_) (fun q1 => ?_)
      · exact bad _ (by omega)
      · refine w_iload_n (pc' := 25) dX0_becomes_24 rfl rfl ?_
        refine w_aload (pc' := 27) dX0_becomes_25 rfl rfl ?_
        refine w_get 0 (pc' := 30) dX0_becomes_27 rfl fX0_229_7 hro rfl ?_
        -- at 30: .if_icmp .ge 41
        refine w_icmp_ge (pc' := 33) (tgt := 71) dX0_becomes_30 rfl rfl (fun q2 => ?_) (fun q2 => ?_)
        · exact bad _ (by omega)
        · refine w_iload (pc' := 35) dX0_becomes_33 rfl rfl ?_
          -- at 35: .ifCond .lt 36
          refine w_if_lt (pc' := 38) (tgt := 71) dX0_becomes_35 rfl rfl (fun q3 => ?_) (fun q3 => ?_)
          · exact bad _ (by omega)
          · refine w_iload (pc' := 40) dX0_becomes_38 rfl rfl ?_
            refine w_aload (pc' := 42) dX0_becomes_40 rfl rfl ?_
            refine w_get 1 (pc' := 45) dX0_becomes_42 rfl fX0_231_7 hro rfl ?_
            -- at 45: .if_icmp .ge 26
            refine w_icmp_ge (pc' := 48) (tgt := 71) dX0_becomes_45 rfl rfl (fun q4 => ?_) (fun q4 => ?_)
            · exact bad _ (by omega)
            · have go : (o = -1 ∨ (0 ≤ o ∧ o < σ.1 5) ∧ 0 ≤ m ∧ m < 8) → tvW mX0_becomes (d + 7) K 73 [some (xR oR), some (xI r), some (xI k), some (xI i), some (xI j), some (xI o), some (xI m), some (xR (uO r)), none] [] G 16 63 := by
                intro ho
                have hacc := h1 ⟨⟨r0, r1⟩, ⟨k0, k1⟩, ⟨by omega, by omega⟩, ⟨by omega, by omega⟩, ho⟩
                clear h1 h0 bad
                refine w_aload (pc' := 75) dX0_becomes_73 rfl rfl ?_
                refine w_iload_n (pc' := 76) dX0_becomes_75 rfl rfl ?_
                -- at 76: .invokevirtual 233
                refine w_callV1 (pc' := 79) (mc := 16) (ms := 63) dX0_becomes_76 rfl tX8_block q639 rfl rfl q640 q638 hro rfl (Nat.le_of_ble_eq_true rfl) (Nat.le_of_ble_eq_true rfl) ?_
                refine c_X8_block hu ⟨k0, by omega⟩ r0 (by omega) (by omega) (fun G1 f1 u1 bl => w_p1 ?_)
                obtain ⟨fk, fm, fs, b1', hB⟩ := bl
                have b1'' := b1'
                obtain ⟨n1, n2, n3, n4, n5⟩ := b1'
                obtain ⟨⟨ga, ga1, ga2⟩, ⟨gb, gb1, gb2⟩, -⟩ := n5 i (by omega) (by omega)
                have ch1 : ∀ q : Rl, ¬ (q.1 = 21 ∧ q.2.1 = r) → ¬ ((33 ≤ q.1 ∧ q.1 < 38) ∧ -(40 * r + 40) ≤ q.2.1 ∧ q.2.1 ≤ -1 - 40 * r) → G1 q = G q := fun q z1 z2 => f1 q (fun z => z1 (by rw [z]; exact ⟨rfl, rfl⟩)) (fun z => z2 ⟨z.1, by have z3 : q.2.1 = -1 - (40 * r + k) := z.2; omega⟩)
                have hof1 := (ch1 oR (by simp only []; omega) (by simp only []; omega)).trans hof
                have kin1 : Rkin σ G1 := Rkin_fr2 (fun q hq => ch1 q (by omega) (by omega)) hx2
                refine w_ast8 (pc' := 81) dX0_becomes_79 rfl rfl ?_
                refine w_aload (pc' := 83) dX0_becomes_81 rfl rfl ?_
                refine w_get 0 (pc' := 86) dX0_becomes_83 rfl fX0_207_6 n1 rfl ?_
                refine w_iload_n (pc' := 87) dX0_becomes_86 rfl rfl ?_
                refine w_aaldM (pc' := 88) dX0_becomes_87 rfl n2 (by omega) (by omega) ?_
                refine w_iload (pc' := 90) dX0_becomes_88 rfl rfl ?_
                refine w_iload (pc' := 92) dX0_becomes_90 rfl rfl ?_
                refine w_i2b (pc' := 93) dX0_becomes_92 rfl ?_
                -- at 93: .bastore
                rw [iB_id ⟨by omega, by omega⟩]
                refine w_bast (pc' := 94) dX0_becomes_93 rfl ga1 (by omega) (by omega) ⟨by omega, by omega⟩ ?_
                -- at 94: .aload 8
                refine w_upd (fun G2 a2 f2 => ?_)
                have n1 := (f2 _ (rl_ne (by omega))).trans n1
                have n3 := (f2 _ (rl_ne (by omega))).trans n3
                have gb1 := (f2 _ (rl_ne (by omega))).trans gb1
                have hof1 := (f2 _ (rl_ne (by omega))).trans hof1
                have bb2 := blo_k b1'' ga1 a2 f2
                have kin2 : Rkin σ G2 := Rkin_fr2 (fun q hq => f2 q (fun z => by rw [z] at hq; simp only [] at hq; omega)) kin1
                have fin : ∀ mo, o = cdat (pcel σ o m) 0 → mo = cdat (pcel σ o m) 1 → (0 ≤ mo ∧ mo < 8) → tvW mX0_becomes (d + 7) K 129 [some (xR oR), some (xI r), some (xI k), some (xI i), some (xI j), some (xI o), some (xI m), some (xR (uO r)), some (xR (33, bid r k, 0))] [xI mo, xI j, xR (36, bid r k, i)] G2 0 0 := by
                  intro mo e1 e2 hmo
                  refine w_i2b (pc' := 130) dX0_becomes_129 rfl ?_
                  -- at 130: .bastore
                  rw [iB_id ⟨by omega, by omega⟩]
                  refine w_bast (pc' := 131) dX0_becomes_130 rfl gb1 (by omega) (by omega) ⟨by omega, by omega⟩ ?_
                  -- at 131: .iconst 1
                  refine w_upd (fun G3 a3 f3 => ?_)
                  have bb3 := blo_m bb2 gb1 a3 f3
                  refine w_iconst (pc' := 132) dX0_becomes_131 rfl (by decide) ?_
                  -- at 132: .ireturn
                  refine w_zreturn dX0_becomes_132 rfl (by first | exact Or.inl rfl | exact Or.inr rfl | omega) ?_
                  have fr3 : ∀ q : Rl, ¬ ((33 ≤ q.1 ∧ q.1 < 38) ∧ q.2.1 = bid r k) → G3 q = G1 q := fun q hq => (f3 q (fun z => hq (by rw [z]; exact ⟨by simp only []; omega, rfl⟩))).trans (f2 q (fun z => hq (by rw [z]; exact ⟨by simp only []; omega, rfl⟩)))
                  have ch3 : ∀ q : Rl, ¬ (q.1 = 21 ∧ q.2.1 = r) → ¬ ((33 ≤ q.1 ∧ q.1 < 38) ∧ -(40 * r + 40) ≤ q.2.1 ∧ q.2.1 ≤ -1 - 40 * r) → G3 q = G q := fun q z1 z2 => (fr3 q (fun z => z2 ⟨z.1, by have z3 : q.2.1 = -1 - (40 * r + k) := z.2; omega⟩)).trans (ch1 q z1 z2)
                  refine hacc G3 (fun q hq => ch3 q (by omega) (by omega)) ⟨_, Rx_rul (r := r) (H := H) (W := W) hw hQ r0 r1 (fun _ => rfl) (fun k hk => if_neg hk) (fun r' k' i' j' e z0 z1 z2 z3 z4 z5 z6 z7 => ?_) eH eW (fun q _ => ch3 q) (Rscr_fr (fun q hq => ch3 q (by omega) (by omega)) hx9) (rul_put u1 b1'' fr3 bb3 (fun i' j' i0 i1 j0 j1 => ?_) (fun k' i' j' e z2 z3 z4 z5 z6 z7 => ?_))⟩
                  · show iset (σ.2 28) (640 * r + 16 * k + 4 * i + j) (pcel σ o m) (640 * r' + 16 * k' + 4 * i' + j') = σ.2 28 (640 * r' + 16 * k' + 4 * i' + j')
                    unfold iset
                    rw [if_neg (by omega)]
                  · show _ = cdat (iset (σ.2 28) (640 * r + 16 * k + 4 * i + j) (pcel σ o m) (640 * r + 16 * k + 4 * i' + j')) 0 ∧ _ = cdat (iset (σ.2 28) (640 * r + 16 * k + 4 * i + j) (pcel σ o m) (640 * r + 16 * k + 4 * i' + j')) 1
                    unfold iset upd2
                    by_cases e : i' = i ∧ j' = j
                    · rw [if_pos e, if_pos e, if_pos (by omega)]
                      exact ⟨e1, e2⟩
                    · rw [if_neg e, if_neg e, if_neg (by omega)]
                      exact hB i' j' i0 i1 j0 j1
                  · show iset (σ.2 28) (640 * r + 16 * k + 4 * i + j) (pcel σ o m) (640 * r + 16 * k' + 4 * i' + j') = σ.2 28 (640 * r + 16 * k' + 4 * i' + j')
                    unfold iset
                    rw [if_neg (by omega)]
                refine w_aload (pc' := 96) dX0_becomes_94 rfl rfl ?_
                refine w_get 1 (pc' := 99) dX0_becomes_96 rfl fX0_210_6 n1 rfl ?_
                refine w_iload_n (pc' := 100) dX0_becomes_99 rfl rfl ?_
                refine w_aaldM (pc' := 101) dX0_becomes_100 rfl n3 (by omega) (by omega) ?_
                refine w_iload (pc' := 103) dX0_becomes_101 rfl rfl ?_
                refine w_iload (pc' := 105) dX0_becomes_103 rfl rfl ?_
                -- at 105: .ifCond .ge 7
                refine w_if_ge (pc' := 108) (tgt := 112) dX0_becomes_105 rfl rfl (fun g => ?_) (fun g => ?_)
                · obtain ⟨⟨o0, o1⟩, m0, m1⟩ : (0 ≤ o ∧ o < σ.1 5) ∧ 0 ≤ m ∧ m < 8 := by omega
                  obtain ⟨-, tT, -, -⟩ := hK.2 o o0 o1
                  have hl := lie_r (mir := σ.2 3 o) tT m0 m1
                  have tl := kin2.2 o o0 o1
                  obtain ⟨lf, hlO⟩ := lst_o kin2.1
                  have ep : pcel σ o m = cel o (lie (σ.2 3 o) (σ.2 1 o) m) 0 := if_neg (by omega)
                  obtain ⟨c0, c1, -⟩ := cd_cel (s := 0) (show 0 ≤ o ∧ o < 40 by omega) hl
                  refine w_aload_n (pc' := 113) dX0_becomes_112 rfl rfl ?_
                  refine w_get 0 (pc' := 116) dX0_becomes_113 rfl fX0_10_0 hof1 rfl ?_
                  refine w_iload (pc' := 118) dX0_becomes_116 rfl rfl ?_
                  -- at 118: .invokevirtual 58
                  refine w_callV1 (pc' := 121) (mc := 0) (ms := 0) dX0_becomes_118 rfl tJ2_get q211 rfl rfl q212 q210 hlO rfl (Nat.le_of_ble_eq_true rfl) (Nat.le_of_ble_eq_true rfl) ?_
                  refine c_J2_get kin2.1 ⟨o0, o1⟩ ?_
                  refine w_p1 ?_
                  refine w_cast (pc' := 124) dX0_becomes_121 rfl tl.1 rfl q224 ?_
                  refine w_iload (pc' := 126) dX0_becomes_124 rfl rfl ?_
                  -- at 126: .invokevirtual 109
                  refine w_callV1 (pc' := 129) (mc := 0) (ms := 0) dX0_becomes_126 rfl tX2_lies q327 rfl rfl q328 q326 tl.1 rfl (Nat.le_of_ble_eq_true rfl) (Nat.le_of_ble_eq_true rfl) ?_
                  refine c_X2_lies tl tT ⟨m0, m1⟩ ?_
                  refine w_p1 ?_
                  exact fin _ (by rw [ep, c0]) (by rw [ep, c1]) hl
                · have eo : o = -1 := by omega
                  have ep : pcel σ o m = 0 := if_pos eo
                  refine w_iconst (pc' := 109) dX0_becomes_108 rfl (by decide) ?_
                  refine w_goto (tgt := 129) dX0_becomes_109 rfl ?_
                  -- at 129: .i2b
                  exact fin 0 (by rw [ep]; exact eo) (by rw [ep]; rfl) ⟨by omega, by omega⟩
              refine w_iload (pc' := 50) dX0_becomes_48 rfl rfl ?_
              refine w_iconst (pc' := 51) dX0_becomes_50 rfl (by decide) ?_
              -- at 51: .if_icmp .eq 22
              refine w_icmp_eq (pc' := 54) (tgt := 73) dX0_becomes_51 rfl rfl (fun e => ?_) (fun e => ?_)
              · exact go (Or.inl e)
              · refine w_aload_n (pc' := 55) dX0_becomes_54 rfl rfl ?_
                refine w_iload (pc' := 57) dX0_becomes_55 rfl rfl ?_
                -- at 57: .invokevirtual 102
                refine w_callV1 (pc' := 60) (mc := 0) (ms := 0) dX0_becomes_57 rfl tX0_isKind q321 rfl rfl qs3 q319 hof rfl (Nat.le_of_ble_eq_true rfl) (Nat.le_of_ble_eq_true rfl) ?_
                refine c_X0_isKind hw (fun o0 o1 => w_p1 ?_) (fun g => w_p1 ?_)
                · refine w_if_eq (pc' := 63) (tgt := 71) dX0_becomes_60 rfl rfl (fun h_ => False.elim (by first | omega | (simp (decide := true) only [au_1, nu_2, au_lt, nu_lt, aw_e, nw_e, au_s, au_n, nu_s, nu_n, au_au, nu_nu, au_nu] at h_; omega))) (fun h_ => ?_)
                  refine w_iload (pc' := 65) dX0_becomes_63 rfl rfl ?_
                  -- at 65: .invokestatic 106
                  refine w_callS1 (pc' := 68) (mc := 0) (ms := 0) dX0_becomes_65 rfl tX0_isMove q324 q323 rfl (Nat.le_of_ble_eq_true rfl) (Nat.le_of_ble_eq_true rfl) ?_
                  refine c_X0_isMove (fun m0 m1 => w_p1 ?_) (fun g => w_p1 ?_)
                  · refine w_if_ne (pc' := 71) (tgt := 73) dX0_becomes_68 rfl rfl (fun h_ => ?_) (fun h_ => False.elim (by first | omega | (simp (decide := true) only [au_1, nu_2, au_lt, nu_lt, aw_e, nw_e, au_s, au_n, nu_s, nu_n, au_au, nu_nu, au_nu] at h_; omega)))
                    exact go (Or.inr ⟨⟨o0, o1⟩, m0, m1⟩)
                  · refine w_if_ne (pc' := 71) (tgt := 73) dX0_becomes_68 rfl rfl (fun h_ => False.elim (by first | omega | (simp (decide := true) only [au_1, nu_2, au_lt, nu_lt, aw_e, nw_e, au_s, au_n, nu_s, nu_n, au_au, nu_nu, au_nu] at h_; omega))) (fun h_ => ?_)
                    exact bad _ (fun q => q.2.2.2.2.elim e (fun z => g z.2))
                · refine w_if_eq (pc' := 63) (tgt := 71) dX0_becomes_60 rfl rfl (fun h_ => ?_) (fun h_ => False.elim (by first | omega | (simp (decide := true) only [au_1, nu_2, au_lt, nu_lt, aw_e, nw_e, au_s, au_n, nu_s, nu_n, au_au, nu_nu, au_nu] at h_; omega)))
                  exact bad _ (fun q => q.2.2.2.2.elim e (fun z => g z.1))
    · refine w_if_eq (pc' := 20) (tgt := 71) dX0_becomes_17 rfl rfl (fun h_ => ?_) (fun h_ => False.elim (by first | omega | (simp (decide := true) only [au_1, nu_2, au_lt, nu_lt, aw_e, nw_e, au_s, au_n, nu_s, nu_n, au_au, nu_nu, au_nu] at h_; omega)))
      exact bad _ (fun q => g q.2.1)
  · refine w_ast7 (pc' := 7) dX0_becomes_5 rfl rfl ?_
    refine w_aload (pc' := 9) dX0_becomes_7 rfl rfl ?_
    -- at 9: .ifnull 62
    refine w_ifnull (pc' := 12) (tgt := 71) dX0_becomes_9 rfl rfl (fun h_ => ?_) (fun h_ => False.elim (h_ rfl))
    exact bad _ (fun q => g q.1)
end
