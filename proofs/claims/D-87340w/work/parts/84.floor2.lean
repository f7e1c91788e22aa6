set_option maxRecDepth 10000
/-- how floor f stands -/
def fl1 (σ : MS) (G : GH) (f : Int) : Prop := ∃ (H W : Nat) (z : List Int) (is ly : Int → Int → Int) (sk lf : Int → Int) (to wa on : Int → Int → Int), (H : Int) = σ.2 35 f ∧ (W : Int) = σ.2 36 f ∧ flo G f H W z is ly sk lf to wa on ∧ (∀ i j : Int, 0 ≤ i → i < H → 0 ≤ j → j < W → is i j = isB σ f i j ∧ ly i j = lyB σ f (fun k => σ.2 38 (64 * f + k)) i j - 1) ∧ ∀ k, 0 ≤ k → k < 40 → sk k = σ.2 39 (40 * f + k)
theorem Rflo_1 {σ : MS} {G : GH} (h : Rflo σ G) {f : Int} (f0 : 0 ≤ f) (f1 : f < σ.1 40) : fl1 σ G f := h.2 f f0 f1
theorem fl1_c {σ τ : MS} {G : GH} {f : Int} (hF : fo1 σ) (f0 : 0 ≤ f) (f1 : f < σ.1 40) (e35 : τ.2 35 f = σ.2 35 f) (e36 : τ.2 36 f = σ.2 36 f) (e37 : ∀ k, 0 ≤ k → k < 64 → τ.2 37 (64 * f + k) = σ.2 37 (64 * f + k)) (e38 : ∀ k, 0 ≤ k → k < 64 → τ.2 38 (64 * f + k) = σ.2 38 (64 * f + k)) (e39 : ∀ k, 0 ≤ k → k < 40 → τ.2 39 (40 * f + k) = σ.2 39 (40 * f + k)) (h : fl1 σ G f) : fl1 τ G f := by
  obtain ⟨H, W, z, is, ly, sk, lf, to, wa, on, eH, eW, hfl, hc, hs⟩ := h
  have hd := hF.2 f f0 f1
  refine ⟨H, W, z, is, ly, sk, lf, to, wa, on, by rw [e35]; exact eH, by rw [e36]; exact eW, hfl, fun i j i0 i1 j0 j1 => ?_, fun k k0 k1 => (hs k k0 k1).trans (e39 k k0 k1).symm⟩
  have x1 := e37 (8 * i + j) (by omega) (by omega)
  have x2 := e38 (8 * i + j) (by omega) (by omega)
  rw [← Int.add_assoc] at x1
  obtain ⟨c1, c2⟩ := hc i j i0 i1 j0 j1
  unfold isB lyB at *
  rw [x1, e35, e36]
  refine ⟨c1, ?_⟩
  rw [c2]
  simp only []
  rw [x2]
/-- one floor changes -/
theorem Rx_flo {σ τ : MS} {pl cl : Int → Int} {N b f : Int} {rg : Option Rl} {G G' : GH} (hw : Rx σ (pl, cl, N, b, rg) G) (hF : fo1 σ) (f0 : 0 ≤ f) (f1 : f < σ.1 40) (hn0 : ∀ k, k ≠ 38 → k < 41 → τ.1 k = σ.1 k) (ha : ∀ k, k < 37 → τ.2 k = σ.2 k)
    (old : ∀ f', 0 ≤ f' → f' < σ.1 40 → f' ≠ f → (∀ k, 0 ≤ k → k < 64 → τ.2 37 (64 * f' + k) = σ.2 37 (64 * f' + k)) ∧ (∀ k, 0 ≤ k → k < 64 → τ.2 38 (64 * f' + k) = σ.2 38 (64 * f' + k)) ∧ ∀ k, 0 ≤ k → k < 40 → τ.2 39 (40 * f' + k) = σ.2 39 (40 * f' + k))
    (ch : ∀ q : Rl, q ≠ oR → ¬ ((24 ≤ q.1 ∧ q.1 < 27) ∧ q.2.1 = f) → ¬ (q.1 = 27 ∧ 8 * f ≤ q.2.1 ∧ q.2.1 < 8 * f + 8) → G' q = G q) (hO : off G' (σ.1 16) (σ.1 9) (τ.1 41) rg) (hnew : fl1 τ G' f) : Rx τ (pl, cl, N, b, rg) G' := by
  obtain ⟨hx1, hx2, hx3, hx4, hx5, hx6, hx7, hx8, hx9, hx10, hx11⟩ := Rx_un hw
  obtain ⟨i1, i2, i3, i4, i5, i6, i7⟩ := hx11
  have ch2 : ∀ q : Rl, q.1 ≠ 2 → ¬ ((24 ≤ q.1 ∧ q.1 < 27) ∧ q.2.1 = f) → ¬ (q.1 = 27 ∧ 8 * f ≤ q.2.1 ∧ q.2.1 < 8 * f + 8) → G' q = G q := fun q q1 => ch q (fun z => q1 (by rw [z]))
  have g1 : off G' (τ.1 16) (τ.1 9) (τ.1 41) rg := by
    rw [hn0 16 (by decide) (by decide), hn0 9 (by decide) (by decide)]
    exact hO
  have g4 : Rpat τ G' pl := by
    have h4 : Rpat σ G' pl := Rpat_fr (fun p _ _ => ch2 _ (by simp only []; omega) (by simp only []; omega) (by simp only []; omega)) (fun q hq _ => ch2 q (by omega) (by omega) (by omega)) (fun p p0 p1 q hq e => ch2 q (by omega) (by omega) (by omega)) hx4
    unfold Rpat rw_ at *
    rw [hn0 12 (by decide) (by decide), ha 10 (by decide), ha 11 (by decide)]
    exact h4
  have g5 : Rchg τ G' cl := Rchg_c (hn0 16 (by decide) (by decide)) (hn0 17 (by decide) (by decide)) (ha 13 (by decide)) (ha 14 (by decide)) (ha 15 (by decide)) (Rchg_fr (ch2 _ (by decide) (by simp only []; omega) (by simp only []; omega)) (fun _ _ _ => ch2 _ (by simp only []; omega) (by simp only []; omega) (by simp only []; omega)) (fun t t0 t1 q hq e => ch2 q (by omega) (by omega) (by omega)) hx5)
  have g6 : Rreg τ G' rg b := Rreg_c (hn0 24 (by decide) (by decide)) (hn0 25 (by decide) (by decide)) (ha 20 (by decide)) (ha 22 (by decide)) (Rreg_fr (fun q hq _ => ch2 q (by omega) (by omega) (by omega)) hx6)
  have g7 : Rrul τ G' := Rrul_c (hn0 29 (by decide) (by decide)) (ha 26 (by decide)) (ha 27 (by decide)) (ha 28 (by decide)) (Rrul_fr (fun q hq => ch2 q (by omega) (by omega) (by omega)) hx7)
  have g8 : Rflo τ G' := by
    refine ⟨?_, fun f' a0 a1 => ?_⟩
    · rw [hn0 40 (by decide) (by decide)]
      exact lst_of_fr (fun q q1 q2 => ch2 q (by omega) (by omega) (by omega)) hx8.1
    · rw [hn0 40 (by decide) (by decide)] at a1
      by_cases e : f' = f
      · rw [e]
        exact hnew
      · obtain ⟨o1, o2, o3⟩ := old f' a0 a1 e
        have h1 : fl1 σ G' f' := by
          obtain ⟨H, W, z, is, ly, sk, lf, to, wa, on, eH, eW, hfl, hc, hs⟩ := hx8.2 f' a0 a1
          exact ⟨H, W, z, is, ly, sk, lf, to, wa, on, eH, eW, flo_fr (fun q q1 => ch2 q (by omega) (by omega) (by omega)) hfl, hc, hs⟩
        exact fl1_c hF a0 a1 (by rw [ha 35 (by decide)]) (by rw [ha 36 (by decide)]) o1 o2 o3 h1
  have g10 : fre τ N G' := fre_ch (σ := σ) (k := σ.1 5) (m := σ.1 9) (p := σ.1 12) (r := σ.1 29) (f := σ.1 40) (hn0 5 (by decide) (by decide)) (hn0 9 (by decide) (by decide)) (hn0 12 (by decide) (by decide)) (hn0 29 (by decide) (by decide)) (hn0 40 (by decide) (by decide)) (Int.le_refl _) (Int.le_refl _) (Int.le_refl _) (Int.le_refl _) (Int.le_refl _) (Int.le_refl _) (fun q hq => ch2 q (by unfold frq at hq; omega) (by unfold frq at hq; omega) (by unfold frq at hq; omega)) hx10
  have g11 : ids τ pl cl N b := by
    unfold ids
    rw [hn0 12 (by decide) (by decide), hn0 16 (by decide) (by decide), hn0 24 (by decide) (by decide)]
    exact ⟨i1, i2, i3, i4, i5, i6, i7⟩
  have p2 : Rkin τ G' := Rkin_c (hn0 5 (by decide) (by decide)) (ha 0 (by decide)) (ha 1 (by decide)) (ha 2 (by decide)) (ha 3 (by decide)) (ha 4 (by decide)) (Rkin_fr2 (fun q hq => ch2 q (by omega) (by omega) (by omega)) hx2)
  have p3 : Rrow τ G' := Rrow_c (hn0 9 (by decide) (by decide)) (ha 6 (by decide)) (ha 7 (by decide)) (ha 8 (by decide)) (Rrow_fr (fun q hq _ _ => ch2 q (by omega) (by omega) (by omega)) hx3)
  have p9 : Rscr G' := Rscr_fr (fun q hq => ch2 q (by omega) (by omega) (by omega)) hx9
  exact Rx_mk g1 p2 p3 g4 g5 g6 g7 g8 p9 g10 g11
/-- a new floor -/
theorem Rx_nflo {σ : MS} {pl cl : Int → Int} {N b : Int} {rg : Option Rl} {H W : Nat} {G G' : GH} {z : List Int} (hw : Rx σ (pl, cl, N, b, rg) G) (hF : fo1 σ) (hH : 1 ≤ H ∧ H ≤ 8) (hW : 1 ≤ W ∧ W ≤ 8) (ch : ∀ q : Rl, ¬ ((24 ≤ q.1 ∧ q.1 < 27) ∧ q.2.1 = σ.1 40) → ¬ (q.1 = 27 ∧ 8 * σ.1 40 ≤ q.2.1 ∧ q.2.1 < 8 * σ.1 40 + 8) → ¬ ((q.1 = 30 ∨ q.1 = 31) ∧ q.2.1 = -4) → G' q = G q)
    (l4 : lst G' (-4) (σ.1 40 + 1) (fun f => some (fO f))) (hnew : flo G' (σ.1 40) H W z (fun _ _ => 0) (fun _ _ => -1) (fun _ => 0) (fun _ => 0) (fun _ _ => 0) (fun _ _ => 0) (fun _ _ => 0)) : Rx (sFloor σ H W) (pl, cl, N, b, rg) G' := by
  obtain ⟨hx1, hx2, hx3, hx4, hx5, hx6, hx7, hx8, hx9, hx10, hx11⟩ := Rx_un hw
  obtain ⟨i1, i2, i3, i4, i5, i6, i7⟩ := hx11
  have hf0 := hF.1
  have g8 : Rflo (sFloor σ H W) G' := by
    refine ⟨l4, fun f a0 a1 => ?_⟩
    have a1 : f < σ.1 40 + 1 := a1
    have e35 : (sFloor σ H W).2 35 f = iset (σ.2 35) (σ.1 40) H f := rfl
    have e36 : (sFloor σ H W).2 36 f = iset (σ.2 36) (σ.1 40) W f := rfl
    have e37 : ∀ z, (sFloor σ H W).2 37 z = rfill (σ.2 37) (64 * σ.1 40) 64 (fun _ => 0) z := fun _ => rfl
    have e38 : ∀ z, (sFloor σ H W).2 38 z = rfill (σ.2 38) (64 * σ.1 40) 64 (fun _ => 0) z := fun _ => rfl
    have e39 : ∀ z, (sFloor σ H W).2 39 z = rfill (σ.2 39) (40 * σ.1 40) 40 (fun _ => 0) z := fun _ => rfl
    by_cases e : f = σ.1 40
    · rw [e] at e35 e36 ⊢
      rw [iset_s] at e35 e36
      refine ⟨H, W, z, _, _, _, _, _, _, _, e35.symm, e36.symm, hnew, fun i j i0 i1 j0 j1 => ?_, fun k k0 k1 => ?_⟩
      · have x1 : (sFloor σ H W).2 37 (64 * σ.1 40 + 8 * i + j) = 0 := by
          rw [e37]
          unfold rfill
          rw [if_pos (by omega)]
        have x2 : (sFloor σ H W).2 38 (64 * σ.1 40 + (8 * i + j)) = 0 := by
          rw [e38]
          unfold rfill
          rw [if_pos (by omega)]
        unfold isB lyB
        rw [x1, e35, e36, if_neg (by decide), if_pos rfl, if_pos ⟨⟨i0, i1⟩, j0, j1⟩, if_neg (by decide), if_neg (by decide)]
        show (0 : Int) = 0 ∧ (-1 : Int) = (sFloor σ H W).2 38 (64 * σ.1 40 + (8 * i + j)) - 1
        rw [x2]
        exact ⟨rfl, rfl⟩
      · rw [e39]
        unfold rfill
        rw [if_pos (by omega)]
    · have h1 : fl1 σ G' f := by
        obtain ⟨H, W, z, is, ly, sk, lf, to, wa, on, eH, eW, hfl, hc, hs⟩ := hx8.2 f a0 (by omega)
        exact ⟨H, W, z, is, ly, sk, lf, to, wa, on, eH, eW, flo_fr (fun q q1 => ch q (by omega) (by omega) (by omega)) hfl, hc, hs⟩
      refine fl1_c hF a0 (by omega) (e35.trans (iset_n e)) (e36.trans (iset_n e)) (fun k k0 k1 => ?_) (fun k k0 k1 => ?_) (fun k k0 k1 => ?_) h1
      · rw [e37]; unfold rfill; rw [if_neg (by omega)]
      · rw [e38]; unfold rfill; rw [if_neg (by omega)]
      · rw [e39]; unfold rfill; rw [if_neg (by omega)]
  have g10 : fre (sFloor σ H W) N G' := fre_ch (σ := σ) (k := σ.1 5) (m := σ.1 9) (p := σ.1 12) (r := σ.1 29) (f := σ.1 40 + 1) rfl rfl rfl rfl rfl (Int.le_refl _) (Int.le_refl _) (Int.le_refl _) (Int.le_refl _) (by omega) (Int.le_refl _) (fun q hq => ch q (by unfold frq at hq; omega) (by unfold frq at hq; omega) (by unfold frq at hq; omega)) hx10
  have p2 : Rkin σ G' := Rkin_fr2 (fun q hq => ch q (by omega) (by omega) (by omega)) hx2
  have p3 : Rrow σ G' := Rrow_fr (fun q hq _ _ => ch q (by omega) (by omega) (by omega)) hx3
  have p4 : Rpat σ G' pl := Rpat_fr (fun p _ _ => ch _ (by simp only []; omega) (by simp only []; omega) (by simp only []; omega)) (fun q hq _ => ch q (by omega) (by omega) (by omega)) (fun p p0 p1 q hq e => ch q (by omega) (by omega) (by have z := i3 p p0 p1; omega)) hx4
  have p5 : Rchg σ G' cl := Rchg_fr (ch _ (by simp only []; omega) (by simp only []; omega) (by simp only []; omega)) (fun _ _ _ => ch _ (by simp only []; omega) (by simp only []; omega) (by simp only []; omega)) (fun t t0 t1 q hq e => ch q (by omega) (by omega) (by have z := i4 t t0 t1; omega)) hx5
  have p6 : Rreg σ G' rg b := Rreg_fr (fun q hq _ => ch q (by omega) (by omega) (by omega)) hx6
  have p7 : Rrul σ G' := Rrul_fr (fun q hq => ch q (by omega) (by omega) (by omega)) hx7
  have p9 : Rscr G' := Rscr_fr (fun q hq => ch q (by omega) (by omega) (by omega)) hx9
  exact Rx_mk ((ch _ (by simp only []; omega) (by simp only []; omega) (by simp only []; omega)).trans hx1) p2 p3 p4 p5 p6 p7 g8 p9 g10 ⟨i1, i2, i3, i4, i5, i6, i7⟩
section
variable {d : Nat} {K : Option XV → GH → Prop} {G0 G : GH} {bc bs : Nat} {σ : MS} {w : RW}
theorem c_X0_floor {r c : Int} (hw : Rx σ w G) (hF : fo1 σ) (h1 : floOk σ r c → ∀ G', tfr G G' → Rel (sFloor σ r c) G' → K (some (xI (σ.1 40))) G') (h0 : ¬ floOk σ r c → K (some (xI (-1))) G) : tvW mX0_floor (d + 7) K 0 [some (xR oR), some (xI r), some (xI c)] [] G 49 560 := by
  obtain ⟨pl, cl, N, b, rg⟩ := w
  obtain ⟨hx1, hx2, hx3, hx4, hx5, hx6, hx7, hx8, hx9, hx10, hx11⟩ := Rx_un hw
  have hof := hx1
  unfold off at hof
  have hN := hx11.1
  have hf0 := hF.1
  obtain ⟨lf, hl⟩ := lst_o hx8.1
  unfold floOk at h1 h0
  have bad : ¬ (σ.1 40 ≠ 6 ∧ (1 ≤ r ∧ r ≤ 8) ∧ 1 ≤ c ∧ c ≤ 8) → tvW mX0_floor (d + 7) K 34 [some (xR oR), some (xI r), some (xI c)] [] G 49 560 := by
    intro q
    refine w_iconst (pc' := 35) dX0_floor_34 rfl (by decide) ?_
    -- at 35: .ireturn
    refine w_ireturn dX0_floor_35 rfl ?_
    exact h0 q
  refine w_aload_n (pc' := 1) dX0_floor_0 rfl rfl ?_
  refine w_get 3 (pc' := 4) dX0_floor_1 rfl fX0_22_0 hof rfl ?_
  -- at 4: .invokevirtual 54
  refine w_callV0 (pc' := 7) (mc := 0) (ms := 0) dX0_floor_4 rfl tJ2_size q207 rfl rfl q208 q206 hl rfl (Nat.le_of_ble_eq_true rfl) (Nat.le_of_ble_eq_true rfl) ?_
  refine c_J2_size hx8.1 ?_
  refine w_p1 ?_
  refine w_bipush (pc' := 9) dX0_floor_7 rfl (by decide +kernel) (by decide) ?_
  -- at 9: .if_icmp .eq 25
  refine w_icmp_eq (pc' := 12) (tgt := 34) dX0_floor_9 rfl rfl (fun q1 => ?_) (fun q1 => ?_)
  · exact bad (by omega)
  · refine w_iload_n (pc' := 13) dX0_floor_12 rfl rfl ?_
    refine w_iconst (pc' := 14) dX0_floor_13 rfl (by decide) ?_
    -- at 14: .if_icmp .lt 20
    refine w_icmp_lt (pc' := 17) (tgt := 34) dX0_floor_14 rfl rfl (fun q2 => ?_) (fun q2 => ?_)
    · exact bad (by omega)
    · refine w_iload_n (pc' := 18) dX0_floor_17 rfl rfl ?_
      refine w_bipush (pc' := 20) dX0_floor_18 rfl (by decide +kernel) (by decide) ?_
      -- at 20: .if_icmp .gt 14
      refine w_icmp_gt (pc' := 23) (tgt := 34) dX0_floor_20 rfl rfl (fun q3 => ?_) (fun q3 => ?_)
      · exact bad (by omega)
      · refine w_iload_n (pc' := 24) dX0_floor_23 rfl rfl ?_
        refine w_iconst (pc' := 25) dX0_floor_24 rfl (by decide) ?_
        -- at 25: .if_icmp .lt 9
        refine w_icmp_lt (pc' := 28) (tgt := 34) dX0_floor_25 rfl rfl (fun q4 => ?_) (fun q4 => ?_)
        · exact bad (by omega)
        · refine w_iload_n (pc' := 29) dX0_floor_28 rfl rfl ?_
          refine w_bipush (pc' := 31) dX0_floor_29 rfl (by decide +kernel) (by decide) ?_
          -- at 31: .if_icmp .le 5
          refine w_icmp_le (pc' := 34) (tgt := 36) dX0_floor_31 rfl rfl (fun q5 => ?_) (fun q5 => ?_)
          · obtain ⟨H, rfl⟩ : ∃ H : Nat, r = (H : Int) := ⟨r.toNat, by omega⟩
            obtain ⟨W, rfl⟩ : ∃ W : Nat, c = (W : Int) := ⟨c.toNat, by omega⟩
            have hfr : ∀ (t : Nat) (z : Int), 24 ≤ t → t < 27 → G (t, σ.1 40, z) = none := fun t z t0 t1 => fre_iff.mp hx10 _ (Or.inr (Or.inr (Or.inr (Or.inr (Or.inr (Or.inr (Or.inr (Or.inl ⟨⟨t0, t1⟩, Int.le_refl _⟩))))))))
            have hfr7 : ∀ n j, 0 ≤ n → n < 8 → G (27, 8 * σ.1 40 + n, j) = none := fun n j n0 n1 => fre_iff.mp hx10 _ (Or.inr (Or.inr (Or.inr (Or.inr (Or.inr (Or.inr (Or.inr (Or.inr ⟨rfl, by simp only []; omega⟩))))))))
            have hfO := hfr 24 0 (by omega) (by omega)
            refine w_aload_n (pc' := 37) dX0_floor_36 rfl rfl ?_
            refine w_get 3 (pc' := 40) dX0_floor_37 rfl fX0_22_0 hof rfl ?_
            refine w_new (N := 20) (fO (σ.1 40)) (pc' := 43) dX0_floor_40 rfl nX0_66 (by assumption) (by first | assumption | simp) ?_
            -- at 43: .dup
            refine w_upd (fun G1 a1 f1 => ?_)
            refine w_dup (pc' := 44) dX0_floor_43 rfl rfl ?_
            refine w_aload_n (pc' := 45) dX0_floor_44 rfl rfl ?_
            refine w_iload_n (pc' := 46) dX0_floor_45 rfl rfl ?_
            refine w_iload_n (pc' := 47) dX0_floor_46 rfl rfl ?_
            -- at 47: .invokespecial 333
            refine w_callI3 (pc' := 50) (mc := 47) (ms := 440) dX0_floor_47 rfl tX10_init rfl rfl q868 (Or.inl q867) rfl (Nat.le_of_ble_eq_true rfl) (Nat.le_of_ble_eq_true rfl) ?_
            refine c_X10_init ⟨by omega, by omega⟩ ⟨by omega, by omega⟩ a1 (fun j => (f1 _ (rl_ne (by omega))).trans (hfr 25 j (by omega) (by omega))) (fun j => (f1 _ (rl_ne (by omega))).trans (hfr 26 j (by omega) (by omega))) (fun n j n0 n1 => (f1 _ (rl_ne (by omega))).trans (hfr7 n j n0 n1)) (fun G2 f2 hu => w_p0 ?_)
            have ch2 : ffr (σ.1 40) G G2 := ffr_t (ffr_s (by omega) f1) f2
            have lp : lst G2 (-4) (σ.1 40) (fun p => some (fO p)) := lst_of_fr (fun q q1 q2 => ch2 q (by omega) (by omega)) hx8.1
            have lelp : lel G2 (σ.1 40) (fun p => some (fO p)) 8 := by
              intro i i0 i1
              obtain ⟨H', W', z, is, ly, sk, lf, to, wa, on, -, -, ⟨⟨z0, z1, z2, z3, z4, z5, z6, z7, z8, z9, -, hob⟩, -⟩, -⟩ := hx8.2 i i0 i1
              exact ⟨_, _, rfl, Or.inl (by decide : (24 : Nat) < 30), (ch2 _ (by simp only []; omega) (by simp only []; omega)).trans hob⟩
            obtain ⟨lf2, hl2⟩ := lst_o lp
            obtain ⟨z0, z1, z2, z3, z4, z5, z6, z7, z8, z9, -, hob⟩ := hu.1
            refine w_callV1 (pc' := 53) (mc := 1) (ms := 100) dX0_floor_50 rfl tJ2_add q257 rfl rfl q258 q256 hl2 rfl (Nat.le_of_ble_eq_true rfl) (Nat.le_of_ble_eq_true rfl) ?_
            refine c_J2_add lp (by omega) ⟨_, rfl, Or.inr ⟨_, rfl, q1590⟩⟩ lelp hob (Or.inl (by decide : (24 : Nat) < 30)) (fun G3 f3 l3 => w_p1 ?_)
            have hof := ((f3 oR (by simp only []; omega)).trans (ch2 oR (by simp only []; omega) (by simp only []; omega))).trans hof
            have l3 : lst G3 (-4) (σ.1 40 + 1) (fun k => some (fO k)) := lst_c (fun i _ _ => by unfold rset; split <;> simp [*]) l3
            obtain ⟨lf3, hl3⟩ := lst_o l3
            refine w_pop (pc' := 54) dX0_floor_53 rfl rfl ?_
            refine w_aload_n (pc' := 55) dX0_floor_54 rfl rfl ?_
            refine w_get 3 (pc' := 58) dX0_floor_55 rfl fX0_22_0 hof rfl ?_
            -- at 58: .invokevirtual 54
            refine w_callV0 (pc' := 61) (mc := 0) (ms := 0) dX0_floor_58 rfl tJ2_size q207 rfl rfl q208 q206 hl3 rfl (Nat.le_of_ble_eq_true rfl) (Nat.le_of_ble_eq_true rfl) ?_
            refine c_J2_size l3 ?_
            refine w_p1 ?_
            refine w_iconst (pc' := 62) dX0_floor_61 rfl (by decide) ?_
            refine w_isub (pc' := 63) dX0_floor_62 rfl ⟨by first | omega | (simp (decide := true) only [au_1, nu_2, au_lt, nu_lt, aw_e, nw_e, au_s, au_n, nu_s, nu_n, au_au, nu_nu, au_nu]; omega), by first | omega | (simp (decide := true) only [au_1, nu_2, au_lt, nu_lt, aw_e, nw_e, au_s, au_n, nu_s, nu_n, au_au, nu_nu, au_nu]; omega)⟩ ?_
            -- at 63: .ireturn
            refine w_ireturn dX0_floor_63 rfl ?_
            rw [show σ.1 40 + 1 - 1 = σ.1 40 by omega]
            have ch3 : ∀ q : Rl, ¬ ((24 ≤ q.1 ∧ q.1 < 27) ∧ q.2.1 = σ.1 40) → ¬ (q.1 = 27 ∧ 8 * σ.1 40 ≤ q.2.1 ∧ q.2.1 < 8 * σ.1 40 + 8) → ¬ ((q.1 = 30 ∨ q.1 = 31) ∧ q.2.1 = -4) → G3 q = G q := fun q q1 q2 q3 => (f3 q q3).trans (ch2 q q1 q2)
            exact h1 ⟨q1, ⟨by omega, by omega⟩, by omega, by omega⟩ G3 (fun q hq => ch3 q (by omega) (by omega) (by omega)) ⟨_, Rx_nflo hw hF ⟨by omega, by omega⟩ ⟨by omega, by omega⟩ ch3 l3 (flo_fr (fun q q1 => f3 q (by omega)) hu)⟩
          · exact bad (by omega)
end
