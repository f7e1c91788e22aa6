set_option maxRecDepth 10000
theorem fl1_3 {σ : MS} {G : GH} {f : Int} (h : fl1 σ G f) : ∃ (H W : Nat) (z0 z1 z2 z3 z4 z5 z6 z7 z8 z9 : Int), (H : Int) = σ.2 35 f ∧ (W : Int) = σ.2 36 f ∧ G (fO f) = some (xob 8 (fob f H W z0 z1 z2 z3 z4 z5 z6 z7 z8 z9)) ∧ fl3 σ f H W (fun k => σ.2 38 (64 * f + k)) G := by
  obtain ⟨H, W, z, is, ly, sk, lf, to, wa, on, eH, eW, ⟨⟨z0, z1, z2, z3, z4, z5, z6, z7, z8, z9, ez, hO⟩, b0, b1, b2, b3, b4, s0, s1⟩, hc, hs⟩ := h
  exact ⟨H, W, z0, z1, z2, z3, z4, z5, z6, z7, z8, z9, eH, eW, hO, fbd_c (fun i j i0 i1 j0 j1 => (hc i j i0 i1 j0 j1).1) b0, fbd_c (fun i j i0 i1 j0 j1 => (hc i j i0 i1 j0 j1).2) b1, ⟨_, b2⟩, ⟨_, b3⟩, ⟨_, b4⟩, ⟨_, s0, hs⟩, _, s1⟩
theorem fl3_1 {σ τ : MS} {G : GH} {f : Int} {H W : Nat} {b : Int → Int} {z0 z1 z2 z3 z4 z5 z6 z7 z8 z9 : Int} (hF : fo1 σ) (hf : 0 ≤ f ∧ f < σ.1 40) (hfr : frS scS σ τ) (e38 : τ.2 38 = shF σ f (zfl σ f) b) (eH : (H : Int) = σ.2 35 f) (eW : (W : Int) = σ.2 36 f) (hW : W ≤ 8) (hO : G (fO f) = some (xob 8 (fob f H W z0 z1 z2 z3 z4 z5 z6 z7 z8 z9))) (h3 : fl3 σ f H W b G) : fl1 τ G f := by
  obtain ⟨b0, b1, ⟨to, b2⟩, ⟨wa, b3⟩, ⟨on, b4⟩, ⟨sk, s0, hs⟩, lf, s1⟩ := h3
  have e35 := hfr.2 35 (by decide)
  have e36 := hfr.2 36 (by decide)
  have e37 := hfr.2 37 (by decide)
  have e39 := hfr.2 39 (by decide)
  refine ⟨H, W, _, _, _, sk, lf, to, wa, on, by rw [e35]; exact eH, by rw [e36]; exact eW, ⟨⟨z0, z1, z2, z3, z4, z5, z6, z7, z8, z9, rfl, hO⟩, b0, b1, b2, b3, b4, s0, s1⟩, fun i j i0 i1 j0 j1 => ⟨?_, ?_⟩, fun k k0 k1 => by rw [e39]; exact hs k k0 k1⟩
  · unfold isB
    rw [e37]
  · have hin : (0 ≤ i ∧ i < σ.2 35 f) ∧ 0 ≤ j ∧ j < σ.2 36 f := ⟨⟨i0, by omega⟩, j0, by omega⟩
    unfold lyB
    rw [e35, e36, e37, e38, if_pos hin, if_pos hin]
    by_cases q1 : 0 < σ.2 37 (64 * f + 8 * i + j)
    · rw [if_pos q1, if_pos q1]
    · rw [if_neg q1, if_neg q1]
      by_cases q2 : σ.2 37 (64 * f + 8 * i + j) = -2
      · rw [if_pos q2, if_pos q2]
      · rw [if_neg q2, if_neg q2]
        by_cases q3 : σ.2 37 (64 * f + 8 * i + j) = 0
        · have ho : opB σ f (64 * f + (8 * i + j) - 64 * f) := by
            rw [show 64 * f + (8 * i + j) - 64 * f = 8 * i + j by omega]
            exact ⟨⟨by omega, by omega, by omega⟩, by rw [← Int.add_assoc]; exact q3⟩
          show b (8 * i + j) - 1 = shF σ f (zfl σ f) b (64 * f + (8 * i + j)) - 1
          unfold shF
          rw [ic_t ho, show 64 * f + (8 * i + j) - 64 * f = 8 * i + j by omega]
        · have ht := (hF.2 f hf.1 hf.2).2.2.1 (8 * i + j) (by omega) (by have := (hF.2 f hf.1 hf.2).1; omega)
          rw [← Int.add_assoc] at ht
          omega
theorem Rx_sea {σ τ : MS} {w : RW} {f : Int} {G G' : GH} {b : Int → Int} (hw : Rx σ w G) (hF : fo1 σ) (f0 : 0 ≤ f) (f1 : f < σ.1 40) (hfr : frS scS σ τ) (e38 : τ.2 38 = shF σ f (zfl σ f) b) (ch : ffo f G G') (hO : off G' (σ.1 16) (σ.1 9) (τ.1 41) w.2.2.2.2) (h1 : fl1 τ G' f) : Rx τ w G' := by
  obtain ⟨pl, cl, N, b', rg⟩ := w
  have hd := hF.2 f f0 f1
  refine Rx_flo hw hF f0 f1 (fun k k1 k2 => hfr.1 k (fun z => by simp [scS] at z; omega)) (fun k hk => hfr.2 k (fun z => by simp [scS] at z; omega)) (fun f' a0 a1 e => ⟨fun k k0 k1 => by rw [hfr.2 37 (by decide)], fun k k0 k1 => ?_, fun k k0 k1 => by rw [hfr.2 39 (by decide)]⟩) ch hO h1
  rw [e38]
  unfold shF zfl
  rw [ic_f (fun z => by have := z.1; omega), if_neg (by omega)]
section
variable {d : Nat} {K : Option XV → GH → Prop} {G : GH} {bc bs : Nat} {σ : MS} {w : RW}
theorem c_X10_fill {f : Int} {H W : Nat} {b : Int → Int} {u ma : Int} {rg : Option Rl} {z0 z1 z2 z3 z4 z5 z6 z7 z8 z9 : Int} (hO : G (fO f) = some (xob 8 (fob f H W z0 z1 z2 z3 z4 z5 z6 z7 z8 z9))) (h3 : fl3 σ f H W b G) (hof : off G u ma (σ.1 41) rg) (hkin : Rkin σ G) (hK : kok σ) (hF : fo1 σ) (hf : 0 ≤ f ∧ f < σ.1 40) (eH : (H : Int) = σ.2 35 f) (eW : (W : Int) = σ.2 36 f) (hli : 0 ≤ σ.1 41 ∧ σ.1 41 ≤ 600000)
    (h : ∀ G', ffo f G G' → off G' u ma (resA σ f 1 0).2.1 rg → (∃ z0 z1 z2 z3 z4 z5 z6 z7 z8 z9, G' (fO f) = some (xob 8 (fob f H W z0 z1 z2 z3 z4 z5 z6 z7 z8 z9))) → fl3 σ f H W (resA σ f 1 0).2.2.2.2.2 G' → K (some (xI (if 0 < (resA σ f 1 0).2.2.1 then 1 else if (resA σ f 1 0).2.2.2.2.1 = 1 then 2 else 0))) G') : tvW mX10_fill (d + 143) K 0 [some (xR (fO f))] [] G bc bs := by
  refine w_aload_n (pc' := 1) dX10_fill_0 rfl rfl ?_
  refine w_iconst (pc' := 2) dX10_fill_1 rfl (by decide) ?_
  refine w_iconst (pc' := 3) dX10_fill_2 rfl (by decide) ?_
  -- at 3: .invokevirtual 161
  refine w_callV2 (pc' := 6) (mc := 0) (ms := 0) dX10_fill_3 rfl tX10_search q969 rfl rfl qs26 q967 hO rfl (Nat.le_of_ble_eq_true rfl) (Nat.le_of_ble_eq_true rfl) ?_
  refine c_X10_search hO h3 hof hkin hK hF hf eH eW hli (Or.inl rfl) ⟨by omega, by omega⟩ (fun x _ _ => Iff.rfl) (fun G1 c o le f1 o1 O1 l1 hA => w_p0 ?_)
  have h := h G1 f1 o1 ⟨_, _, _, _, _, _, _, _, _, _, O1⟩ l1
  have a5 := hA.2.2.2.2.1
  generalize resA σ f 1 0 = A at *
  refine w_aload_n (pc' := 7) dX10_fill_6 rfl rfl ?_
  refine w_get 11 (pc' := 10) dX10_fill_7 rfl fX10_92_8 O1 rfl ?_
  -- at 10: .ifCond .le 7
  refine w_if_le (pc' := 13) (tgt := 17) dX10_fill_10 rfl rfl (fun q => ?_) (fun q => ?_)
  · rw [if_neg (by omega)] at h
    refine w_aload_n (pc' := 18) dX10_fill_17 rfl rfl ?_
    refine w_get 18 (pc' := 21) dX10_fill_18 rfl fX10_104_8 O1 rfl ?_
    -- at 21: .ifCond .eq 7
    refine w_if_eq (pc' := 24) (tgt := 28) dX10_fill_21 rfl rfl (fun q2 => ?_) (fun q2 => ?_)
    · rw [if_neg (by omega)] at h
      refine w_iconst (pc' := 29) dX10_fill_28 rfl (by decide) ?_
      -- at 29: .ireturn
      refine w_ireturn dX10_fill_29 rfl ?_
      exact h
    · rw [if_pos (by omega)] at h
      refine w_iconst (pc' := 25) dX10_fill_24 rfl (by decide) ?_
      refine w_goto (tgt := 29) dX10_fill_25 rfl ?_
      -- at 29: .ireturn
      refine w_ireturn dX10_fill_29 rfl ?_
      exact h
  · rw [if_pos (by omega)] at h
    refine w_iconst (pc' := 14) dX10_fill_13 rfl (by decide) ?_
    refine w_goto (tgt := 29) dX10_fill_14 rfl ?_
    -- at 29: .ireturn
    refine w_ireturn dX10_fill_29 rfl ?_
    exact h
theorem c_X10_fills {f m : Int} {H W : Nat} {b : Int → Int} {u ma : Int} {rg : Option Rl} {z0 z1 z2 z3 z4 z5 z6 z7 z8 z9 : Int} (hO : G (fO f) = some (xob 8 (fob f H W z0 z1 z2 z3 z4 z5 z6 z7 z8 z9))) (h3 : fl3 σ f H W b G) (hof : off G u ma (σ.1 41) rg) (hkin : Rkin σ G) (hK : kok σ) (hF : fo1 σ) (hf : 0 ≤ f ∧ f < σ.1 40) (eH : (H : Int) = σ.2 35 f) (eW : (W : Int) = σ.2 36 f) (hli : 0 ≤ σ.1 41 ∧ σ.1 41 ≤ 600000) (hm : 1 ≤ m ∧ m ≤ 1000)
    (h : ∀ G', ffo f G G' → off G' u ma (resA σ f m 0).2.1 rg → (∃ z0 z1 z2 z3 z4 z5 z6 z7 z8 z9, G' (fO f) = some (xob 8 (fob f H W z0 z1 z2 z3 z4 z5 z6 z7 z8 z9))) → fl3 σ f H W (resA σ f m 0).2.2.2.2.2 G' → K (some (xI (if (resA σ f m 0).2.2.2.2.1 = 1 then -2 else (resA σ f m 0).2.2.1))) G') : tvW mX10_fills (d + 143) K 0 [some (xR (fO f)), some (xI m)] [] G bc bs := by
  refine w_aload_n (pc' := 1) dX10_fills_0 rfl rfl ?_
  refine w_iload_n (pc' := 2) dX10_fills_1 rfl rfl ?_
  refine w_iconst (pc' := 3) dX10_fills_2 rfl (by decide) ?_
  -- at 3: .invokevirtual 161
  refine w_callV2 (pc' := 6) (mc := 0) (ms := 0) dX10_fills_3 rfl tX10_search q969 rfl rfl qs26 q967 hO rfl (Nat.le_of_ble_eq_true rfl) (Nat.le_of_ble_eq_true rfl) ?_
  refine c_X10_search hO h3 hof hkin hK hF hf eH eW hli (Or.inl rfl) ⟨by omega, by omega⟩ (fun x _ _ => Iff.rfl) (fun G1 c o le f1 o1 O1 l1 hA => w_p0 ?_)
  have h := h G1 f1 o1 ⟨_, _, _, _, _, _, _, _, _, _, O1⟩ l1
  have a5 := hA.2.2.2.2.1
  generalize resA σ f m 0 = A at *
  refine w_aload_n (pc' := 7) dX10_fills_6 rfl rfl ?_
  refine w_get 18 (pc' := 10) dX10_fills_7 rfl fX10_104_8 O1 rfl ?_
  -- at 10: .ifCond .eq 8
  refine w_if_eq (pc' := 13) (tgt := 18) dX10_fills_10 rfl rfl (fun q => ?_) (fun q => ?_)
  · rw [if_neg (by omega)] at h
    refine w_aload_n (pc' := 19) dX10_fills_18 rfl rfl ?_
    refine w_get 11 (pc' := 22) dX10_fills_19 rfl fX10_92_8 O1 rfl ?_
    -- at 22: .ireturn
    refine w_ireturn dX10_fills_22 rfl ?_
    exact h
  · rw [if_pos (by omega)] at h
    refine w_bipush (pc' := 15) dX10_fills_13 rfl (by decide +kernel) (by decide) ?_
    refine w_goto (tgt := 22) dX10_fills_15 rfl ?_
    -- at 22: .ireturn
    refine w_ireturn dX10_fills_22 rfl ?_
    exact h
theorem c_X10_cost {f : Int} {H W : Nat} {b : Int → Int} {u ma : Int} {rg : Option Rl} {z0 z1 z2 z3 z4 z5 z6 z7 z8 z9 : Int} (hO : G (fO f) = some (xob 8 (fob f H W z0 z1 z2 z3 z4 z5 z6 z7 z8 z9))) (h3 : fl3 σ f H W b G) (hof : off G u ma (σ.1 41) rg) (hkin : Rkin σ G) (hK : kok σ) (hF : fo1 σ) (hf : 0 ≤ f ∧ f < σ.1 40) (eH : (H : Int) = σ.2 35 f) (eW : (W : Int) = σ.2 36 f) (hli : 0 ≤ σ.1 41 ∧ σ.1 41 ≤ 600000)
    (h : ∀ G', ffo f G G' → off G' u ma (resA σ f 1000000 1).2.1 rg → (∃ z0 z1 z2 z3 z4 z5 z6 z7 z8 z9, G' (fO f) = some (xob 8 (fob f H W z0 z1 z2 z3 z4 z5 z6 z7 z8 z9))) → fl3 σ f H W (resA σ f 1000000 1).2.2.2.2.2 G' → K (some (xI (if (resA σ f 1000000 1).2.2.2.2.1 = 1 then -3 else if 0 < (resA σ f 1000000 1).2.2.1 then (resA σ f 1000000 1).2.2.2.1 else -2))) G') : tvW mX10_cost (d + 143) K 0 [some (xR (fO f))] [] G bc bs := by
  refine w_aload_n (pc' := 1) dX10_cost_0 rfl rfl ?_
  refine w_ldc (z := 2147483647) (pc' := 3) dX10_cost_1 rfl q979 (by decide +kernel) (by decide) ?_
  refine w_iconst (pc' := 4) dX10_cost_3 rfl (by decide) ?_
  -- at 4: .invokevirtual 161
  refine w_callV2 (pc' := 7) (mc := 0) (ms := 0) dX10_cost_4 rfl tX10_search q969 rfl rfl qs26 q967 hO rfl (Nat.le_of_ble_eq_true rfl) (Nat.le_of_ble_eq_true rfl) ?_
  refine c_X10_search (most := 1000000) hO h3 hof hkin hK hF hf eH eW hli (Or.inr rfl) ⟨by omega, by omega⟩ (fun x x0 x1 => by have := x1 (by decide); omega) (fun G1 c o le f1 o1 O1 l1 hA => w_p0 ?_)
  have h := h G1 f1 o1 ⟨_, _, _, _, _, _, _, _, _, _, O1⟩ l1
  have a5 := hA.2.2.2.2.1
  generalize resA σ f 1000000 1 = A at *
  refine w_aload_n (pc' := 8) dX10_cost_7 rfl rfl ?_
  refine w_get 18 (pc' := 11) dX10_cost_8 rfl fX10_104_8 O1 rfl ?_
  -- at 11: .ifCond .eq 8
  refine w_if_eq (pc' := 14) (tgt := 19) dX10_cost_11 rfl rfl (fun q => ?_) (fun q => ?_)
  · rw [if_neg (by omega)] at h
    refine w_aload_n (pc' := 20) dX10_cost_19 rfl rfl ?_
    refine w_get 11 (pc' := 23) dX10_cost_20 rfl fX10_92_8 O1 rfl ?_
    -- at 23: .ifCond .le 10
    refine w_if_le (pc' := 26) (tgt := 33) dX10_cost_23 rfl rfl (fun q2 => ?_) (fun q2 => ?_)
    · rw [if_neg (by omega)] at h
      refine w_bipush (pc' := 35) dX10_cost_33 rfl (by decide +kernel) (by decide) ?_
      -- at 35: .ireturn
      refine w_ireturn dX10_cost_35 rfl ?_
      exact h
    · have e : bes A = (A).2.2.2.1 := if_pos (by omega)
      rw [if_pos (by omega)] at h
      refine w_aload_n (pc' := 27) dX10_cost_26 rfl rfl ?_
      refine w_get 13 (pc' := 30) dX10_cost_27 rfl fX10_101_8 O1 rfl ?_
      refine w_goto (tgt := 35) dX10_cost_30 rfl ?_
      -- at 35: .ireturn
      rw [e]
      refine w_ireturn dX10_cost_35 rfl ?_
      exact h
  · rw [if_pos (by omega)] at h
    refine w_bipush (pc' := 16) dX10_cost_14 rfl (by decide +kernel) (by decide) ?_
    refine w_goto (tgt := 35) dX10_cost_16 rfl ?_
    -- at 35: .ireturn
    refine w_ireturn dX10_cost_35 rfl ?_
    exact h
theorem c_X0_fill {f : Int} (hw : Rx σ w G) (hK : kok σ) (hF : fo1 σ) (hli : 0 ≤ σ.1 41 ∧ σ.1 41 ≤ 600000) (h1 : 0 ≤ f ∧ f < σ.1 40 → ∀ G', tfr G G' → (∀ τ, frS scS σ τ → τ.2 38 = shF σ f (zfl σ f) (resA σ f 1 0).2.2.2.2.2 → τ.1 41 = (resA σ f 1 0).2.1 → Rel τ G') → K (some (xI (if 0 < (resA σ f 1 0).2.2.1 then 1 else if (resA σ f 1 0).2.2.2.2.1 = 1 then 2 else 0))) G') (h0 : ¬ (0 ≤ f ∧ f < σ.1 40) → K (some (xI (-1))) G) : tvW mX0_fill (d + 144) K 0 [some (xR oR), some (xI f), none] [] G bc bs := by
  have hof := hw.1
  unfold off at hof
  refine w_aload_n (pc' := 1) dX0_fill_0 rfl rfl ?_
  refine w_iload_n (pc' := 2) dX0_fill_1 rfl rfl ?_
  -- at 2: .invokevirtual 336
  refine w_callV1 (pc' := 5) (mc := 0) (ms := 0) dX0_fill_2 rfl tX0_floor_2 q942 rfl rfl qs24 q940 hof rfl (Nat.le_of_ble_eq_true rfl) (Nat.le_of_ble_eq_true rfl) ?_
  refine c_X0_floor_2 hw (fun f0 f1 => w_p1 ?_) (fun g => w_p1 ?_)
  · obtain ⟨H, W, z0, z1, z2, z3, z4, z5, z6, z7, z8, z9, eH, eW, hO, h3⟩ := fl1_3 (Rflo_1 hw.2.2.2.2.2.2.2.1 f0 f1)
    have hd := hF.2 f f0 f1
    refine w_ast2 (pc' := 6) dX0_fill_5 rfl rfl ?_
    refine w_aload_n (pc' := 7) dX0_fill_6 rfl rfl ?_
    -- at 7: .ifnonnull 7
    refine w_ifnonnull (pc' := 10) (tgt := 14) dX0_fill_7 rfl rfl (fun h_ => ?_) (fun h_ => False.elim (nomatch h_))
    refine w_aload_n (pc' := 15) dX0_fill_14 rfl rfl ?_
    -- at 15: .invokevirtual 347
    refine w_callV0 (pc' := 18) (mc := 0) (ms := 0) dX0_fill_15 rfl tX10_fill q964 rfl rfl q965 q963 hO rfl (Nat.le_of_ble_eq_true rfl) (Nat.le_of_ble_eq_true rfl) ?_
    refine c_X10_fill hO h3 hw.1 hw.2.1 hK hF ⟨f0, f1⟩ eH eW hli (fun G1 fr o1 O1 l1 => w_p1 ?_)
    obtain ⟨y0, y1, y2, y3, y4, y5, y6, y7, y8, y9, O1⟩ := O1
    refine w_ireturn dX0_fill_18 rfl ?_
    exact h1 ⟨f0, f1⟩ G1 (fun q hq => fr q (fun z => by rw [z] at hq; simp only [] at hq; omega) (by omega) (by omega)) (fun τ t1 t2 t3 => ⟨w, Rx_sea hw hF f0 f1 t1 t2 fr (by rw [t3]; exact o1) (fl3_1 hF ⟨f0, f1⟩ t1 t2 eH eW (by omega) O1 l1)⟩)
  · refine w_ast2 (pc' := 6) dX0_fill_5 rfl rfl ?_
    refine w_aload_n (pc' := 7) dX0_fill_6 rfl rfl ?_
    -- at 7: .ifnonnull 7
    refine w_ifnonnull (pc' := 10) (tgt := 14) dX0_fill_7 rfl rfl (fun h_ => False.elim (h_ rfl)) (fun h_ => ?_)
    refine w_iconst (pc' := 11) dX0_fill_10 rfl (by decide) ?_
    refine w_goto (tgt := 18) dX0_fill_11 rfl ?_
    -- at 18: .ireturn
    refine w_ireturn dX0_fill_18 rfl ?_
    exact h0 g
theorem c_X0_fills {f m : Int} (hw : Rx σ w G) (hK : kok σ) (hF : fo1 σ) (hli : 0 ≤ σ.1 41 ∧ σ.1 41 ≤ 600000) (h1 : (0 ≤ f ∧ f < σ.1 40) ∧ 1 ≤ m ∧ m ≤ 1000 → ∀ G', tfr G G' → (∀ τ, frS scS σ τ → τ.2 38 = shF σ f (zfl σ f) (resA σ f m 0).2.2.2.2.2 → τ.1 41 = (resA σ f m 0).2.1 → Rel τ G') → K (some (xI (if (resA σ f m 0).2.2.2.2.1 = 1 then -2 else (resA σ f m 0).2.2.1))) G') (h0 : ¬ ((0 ≤ f ∧ f < σ.1 40) ∧ 1 ≤ m ∧ m ≤ 1000) → K (some (xI (-1))) G) : tvW mX0_fills (d + 144) K 0 [some (xR oR), some (xI f), some (xI m), none] [] G bc bs := by
  have hof := hw.1
  unfold off at hof
  have bad : ∀ o, ¬ ((0 ≤ f ∧ f < σ.1 40) ∧ 1 ≤ m ∧ m ≤ 1000) → tvW mX0_fills (d + 144) K 22 [some (xR oR), some (xI f), some (xI m), some (xO o)] [] G bc bs := by
    intro o q
    refine w_iconst (pc' := 23) dX0_fills_22 rfl (by decide) ?_
    refine w_goto (tgt := 31) dX0_fills_23 rfl ?_
    -- at 31: .ireturn
    refine w_ireturn dX0_fills_31 rfl ?_
    exact h0 q
  refine w_aload_n (pc' := 1) dX0_fills_0 rfl rfl ?_
  refine w_iload_n (pc' := 2) dX0_fills_1 rfl rfl ?_
  -- at 2: .invokevirtual 336
  refine w_callV1 (pc' := 5) (mc := 0) (ms := 0) dX0_fills_2 rfl tX0_floor_2 q942 rfl rfl qs24 q940 hof rfl (Nat.le_of_ble_eq_true rfl) (Nat.le_of_ble_eq_true rfl) ?_
  refine c_X0_floor_2 hw (fun f0 f1 => w_p1 ?_) (fun g => w_p1 ?_)
  · obtain ⟨H, W, z0, z1, z2, z3, z4, z5, z6, z7, z8, z9, eH, eW, hO, h3⟩ := fl1_3 (Rflo_1 hw.2.2.2.2.2.2.2.1 f0 f1)
    have hd := hF.2 f f0 f1
    refine w_ast3 (pc' := 6) dX0_fills_5 rfl rfl ?_
    refine w_aload_n (pc' := 7) dX0_fills_6 rfl rfl ?_
    -- at 7: .ifnull 15
    refine w_ifnull (pc' := 10) (tgt := 22) dX0_fills_7 rfl rfl (fun h_ => False.elim (nomatch h_)) (fun h_ => ?_)
    refine w_iload_n (pc' := 11) dX0_fills_10 rfl rfl ?_
    refine w_iconst (pc' := 12) dX0_fills_11 rfl (by decide) ?_
    -- at 12: .if_icmp .lt 10
    refine w_icmp_lt (pc' := 15) (tgt := 22) dX0_fills_12 rfl rfl (fun q1 => ?_) (fun q1 => ?_)
    · exact bad _ (by omega)
    · refine w_iload_n (pc' := 16) dX0_fills_15 rfl rfl ?_
      refine w_sipush (pc' := 19) dX0_fills_16 rfl (by decide +kernel) (by decide) ?_
      -- at 19: .if_icmp .le 7
      refine w_icmp_le (pc' := 22) (tgt := 26) dX0_fills_19 rfl rfl (fun q2 => ?_) (fun q2 => ?_)
      · refine w_aload_n (pc' := 27) dX0_fills_26 rfl rfl ?_
        refine w_iload_n (pc' := 28) dX0_fills_27 rfl rfl ?_
        -- at 28: .invokevirtual 350
        refine w_callV1 (pc' := 31) (mc := 0) (ms := 0) dX0_fills_28 rfl tX10_fills q1022 rfl rfl q1023 q1021 hO rfl (Nat.le_of_ble_eq_true rfl) (Nat.le_of_ble_eq_true rfl) ?_
        refine c_X10_fills hO h3 hw.1 hw.2.1 hK hF ⟨f0, f1⟩ eH eW hli ⟨by omega, by omega⟩ (fun G1 fr o1 O1 l1 => w_p1 ?_)
        obtain ⟨y0, y1, y2, y3, y4, y5, y6, y7, y8, y9, O1⟩ := O1
        refine w_ireturn dX0_fills_31 rfl ?_
        exact h1 ⟨⟨f0, f1⟩, by omega, by omega⟩ G1 (fun q hq => fr q (fun z => by rw [z] at hq; simp only [] at hq; omega) (by omega) (by omega)) (fun τ t1 t2 t3 => ⟨w, Rx_sea hw hF f0 f1 t1 t2 fr (by rw [t3]; exact o1) (fl3_1 hF ⟨f0, f1⟩ t1 t2 eH eW (by omega) O1 l1)⟩)
      · exact bad _ (by omega)
  · refine w_ast3 (pc' := 6) dX0_fills_5 rfl rfl ?_
    refine w_aload_n (pc' := 7) dX0_fills_6 rfl rfl ?_
    -- at 7: .ifnull 15
    refine w_ifnull (pc' := 10) (tgt := 22) dX0_fills_7 rfl rfl (fun h_ => ?_) (fun h_ => False.elim (h_ rfl))
    exact bad _ (fun q => g q.1)
theorem c_X0_cheapest {f : Int} (hw : Rx σ w G) (hK : kok σ) (hF : fo1 σ) (hli : 0 ≤ σ.1 41 ∧ σ.1 41 ≤ 600000) (h1 : 0 ≤ f ∧ f < σ.1 40 → ∀ G', tfr G G' → (∀ τ, frS scS σ τ → τ.2 38 = shF σ f (zfl σ f) (resA σ f 1000000 1).2.2.2.2.2 → τ.1 41 = (resA σ f 1000000 1).2.1 → Rel τ G') → K (some (xI (if (resA σ f 1000000 1).2.2.2.2.1 = 1 then -3 else if 0 < (resA σ f 1000000 1).2.2.1 then (resA σ f 1000000 1).2.2.2.1 else -2))) G') (h0 : ¬ (0 ≤ f ∧ f < σ.1 40) → K (some (xI (-1))) G) : tvW mX0_cheapest (d + 144) K 0 [some (xR oR), some (xI f), none] [] G bc bs := by
  have hof := hw.1
  unfold off at hof
  refine w_aload_n (pc' := 1) dX0_cheapest_0 rfl rfl ?_
  refine w_iload_n (pc' := 2) dX0_cheapest_1 rfl rfl ?_
  -- at 2: .invokevirtual 336
  refine w_callV1 (pc' := 5) (mc := 0) (ms := 0) dX0_cheapest_2 rfl tX0_floor_2 q942 rfl rfl qs24 q940 hof rfl (Nat.le_of_ble_eq_true rfl) (Nat.le_of_ble_eq_true rfl) ?_
  refine c_X0_floor_2 hw (fun f0 f1 => w_p1 ?_) (fun g => w_p1 ?_)
  · obtain ⟨H, W, z0, z1, z2, z3, z4, z5, z6, z7, z8, z9, eH, eW, hO, h3⟩ := fl1_3 (Rflo_1 hw.2.2.2.2.2.2.2.1 f0 f1)
    have hd := hF.2 f f0 f1
    refine w_ast2 (pc' := 6) dX0_cheapest_5 rfl rfl ?_
    refine w_aload_n (pc' := 7) dX0_cheapest_6 rfl rfl ?_
    -- at 7: .ifnonnull 7
    refine w_ifnonnull (pc' := 10) (tgt := 14) dX0_cheapest_7 rfl rfl (fun h_ => ?_) (fun h_ => False.elim (nomatch h_))
    refine w_aload_n (pc' := 15) dX0_cheapest_14 rfl rfl ?_
    -- at 15: .invokevirtual 353
    refine w_callV0 (pc' := 18) (mc := 0) (ms := 0) dX0_cheapest_15 rfl tX10_cost q1030 rfl rfl q1031 q1029 hO rfl (Nat.le_of_ble_eq_true rfl) (Nat.le_of_ble_eq_true rfl) ?_
    refine c_X10_cost hO h3 hw.1 hw.2.1 hK hF ⟨f0, f1⟩ eH eW hli (fun G1 fr o1 O1 l1 => w_p1 ?_)
    obtain ⟨y0, y1, y2, y3, y4, y5, y6, y7, y8, y9, O1⟩ := O1
    refine w_ireturn dX0_cheapest_18 rfl ?_
    exact h1 ⟨f0, f1⟩ G1 (fun q hq => fr q (fun z => by rw [z] at hq; simp only [] at hq; omega) (by omega) (by omega)) (fun τ t1 t2 t3 => ⟨w, Rx_sea hw hF f0 f1 t1 t2 fr (by rw [t3]; exact o1) (fl3_1 hF ⟨f0, f1⟩ t1 t2 eH eW (by omega) O1 l1)⟩)
  · refine w_ast2 (pc' := 6) dX0_cheapest_5 rfl rfl ?_
    refine w_aload_n (pc' := 7) dX0_cheapest_6 rfl rfl ?_
    -- at 7: .ifnonnull 7
    refine w_ifnonnull (pc' := 10) (tgt := 14) dX0_cheapest_7 rfl rfl (fun h_ => False.elim (h_ rfl)) (fun h_ => ?_)
    refine w_iconst (pc' := 11) dX0_cheapest_10 rfl (by decide) ?_
    refine w_goto (tgt := 18) dX0_cheapest_11 rfl ?_
    -- at 18: .ireturn
    refine w_ireturn dX0_cheapest_18 rfl ?_
    exact h0 g
end
