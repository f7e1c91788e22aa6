set_option maxRecDepth 10000
theorem fbd_s {G G' : GH} {f n y x v : Int} {t ty H W : Nat} {b : Int → Int → Int} {g : Int → Int} (h : fbd G f n t ty H W b) (hg : G (27, 8 * f + n, y) = some (xar ty W g)) (h1 : G' (27, 8 * f + n, y) = some (xar ty W (iset g x v))) (hf : ∀ q, q ≠ ((27, 8 * f + n, y) : Rl) → G' q = G q) : fbd G' f n t ty H W (upd2 b y x v) := ⟨(hf _ (rl_ne (by omega))).trans h.1, fun i i0 i1 => bar_st (h.2 i i0 i1) hg h1 hf⟩
theorem fbd_c {G : GH} {f n : Int} {t ty H W : Nat} {b b' : Int → Int → Int} (e : ∀ i j : Int, 0 ≤ i → i < H → 0 ≤ j → j < W → b i j = b' i j) (h : fbd G f n t ty H W b) : fbd G f n t ty H W b' := by
  refine ⟨h.1, fun i i0 i1 => ?_⟩
  obtain ⟨g, g1, g2⟩ := h.2 i i0 i1
  exact ⟨g, g1, fun j j0 j1 => (g2 j j0 j1).trans (e i j i0 i1 j0 j1)⟩
section
variable {d : Nat} {K : Option XV → GH → Prop} {G0 G : GH} {bc bs : Nat} {σ : MS} {w : RW}
theorem c_X10_has {f i j : Int} {H W : Nat} {rest : List XV} (hO : G (fO f) = some (xob 8 (xI H :: xI W :: rest))) (h1 : (0 ≤ i ∧ i < H) ∧ 0 ≤ j ∧ j < W → K (some (xI 1)) G) (h0 : ¬ ((0 ≤ i ∧ i < H) ∧ 0 ≤ j ∧ j < W) → K (some (xI 0)) G) : tvW mX10_has d K 0 [some (xR (fO f)), some (xI i), some (xI j)] [] G bc bs := by
  have bad : ¬ ((0 ≤ i ∧ i < (H : Int)) ∧ 0 ≤ j ∧ j < W) → tvW mX10_has d K 28 [some (xR (fO f)), some (xI i), some (xI j)] [] G bc bs := by
    intro q
    refine w_iconst (pc' := 29) dX10_has_28 rfl (by decide) ?_
    -- at 29: .ireturn
    refine w_zreturn dX10_has_29 rfl (by first | exact Or.inl rfl | exact Or.inr rfl | omega) ?_
    exact h0 q
  refine w_iload_n (pc' := 1) dX10_has_0 rfl rfl ?_
  -- at 1: .ifCond .lt 27
  refine w_if_lt (pc' := 4) (tgt := 28) dX10_has_1 rfl rfl (fun q1 => ?_) (fun q1 => ?_)
  · exact bad (by omega)
  · refine w_iload_n (pc' := 5) dX10_has_4 rfl rfl ?_
    refine w_aload_n (pc' := 6) dX10_has_5 rfl rfl ?_
    refine w_get 0 (pc' := 9) dX10_has_6 rfl fX10_22_8 hO rfl ?_
    -- at 9: .if_icmp .ge 19
    refine w_icmp_ge (pc' := 12) (tgt := 28) dX10_has_9 rfl rfl (fun q2 => ?_) (fun q2 => ?_)
    · exact bad (by omega)
    · refine w_iload_n (pc' := 13) dX10_has_12 rfl rfl ?_
      -- at 13: .ifCond .lt 15
      refine w_if_lt (pc' := 16) (tgt := 28) dX10_has_13 rfl rfl (fun q3 => ?_) (fun q3 => ?_)
      · exact bad (by omega)
      · refine w_iload_n (pc' := 17) dX10_has_16 rfl rfl ?_
        refine w_aload_n (pc' := 18) dX10_has_17 rfl rfl ?_
        refine w_get 1 (pc' := 21) dX10_has_18 rfl fX10_26_8 hO rfl ?_
        -- at 21: .if_icmp .ge 7
        refine w_icmp_ge (pc' := 24) (tgt := 28) dX10_has_21 rfl rfl (fun q4 => ?_) (fun q4 => ?_)
        · exact bad (by omega)
        · refine w_iconst (pc' := 25) dX10_has_24 rfl (by decide) ?_
          refine w_goto (tgt := 29) dX10_has_25 rfl ?_
          -- at 29: .ireturn
          refine w_zreturn dX10_has_29 rfl (by first | exact Or.inl rfl | exact Or.inr rfl | omega) ?_
          exact h1 (by omega)
theorem c_X10_shown {f i j : Int} (hfl : fl1 σ G f) (hF : fo1 σ) (hf : 0 ≤ f ∧ f < σ.1 40) (h : K (some (xI (aShown σ f i j))) G) : tvW mX10_shown (d + 1) K 0 [some (xR (fO f)), some (xI i), some (xI j)] [] G bc bs := by
  obtain ⟨H, W, z, is, ly, sk, lf, to, wa, on, eH, eW, ⟨⟨z0, z1, z2, z3, z4, z5, z6, z7, z8, z9, ez, hO⟩, b0, b1, b2, b3, b4, s0, s1⟩, hc, hs⟩ := hfl
  have hd := hF.2 f hf.1 hf.2
  unfold aShown at h
  have no : (¬ isPl σ f i j ∨ σ.2 37 (64 * f + (8 * i + j)) = -2) → tvW mX10_shown (d + 1) K 21 [some (xR (fO f)), some (xI i), some (xI j)] [] G bc bs := by
    intro q
    refine w_bipush (pc' := 23) dX10_shown_21 rfl (by decide +kernel) (by decide) ?_
    refine w_goto (tgt := 34) dX10_shown_23 rfl ?_
    -- at 34: .ireturn
    refine w_ireturn dX10_shown_34 rfl ?_
    by_cases p : isPl σ f i j
    · rw [ic_t p, if_pos (q.resolve_left (fun z => z p))] at h
      exact h
    · rw [ic_f p] at h
      exact h
  refine w_aload_n (pc' := 1) dX10_shown_0 rfl rfl ?_
  refine w_iload_n (pc' := 2) dX10_shown_1 rfl rfl ?_
  refine w_iload_n (pc' := 3) dX10_shown_2 rfl rfl ?_
  -- at 3: .invokevirtual 48
  refine w_callV2 (pc' := 6) (mc := 0) (ms := 0) dX10_shown_3 rfl tX10_has q950 rfl rfl qs25 q948 hO rfl (Nat.le_of_ble_eq_true rfl) (Nat.le_of_ble_eq_true rfl) ?_
  refine c_X10_has hO (fun q => w_p1 ?_) (fun q => w_p1 ?_)
  · obtain ⟨⟨i0, i1⟩, j0, j1⟩ := q
    have hpl : isPl σ f i j := ⟨hf, ⟨i0, by omega⟩, j0, by omega⟩
    obtain ⟨c1, c2⟩ := hc i j i0 i1 j0 j1
    obtain ⟨gi, gi1, gi2⟩ := b0.2 i i0 i1
    obtain ⟨gl, gl1, gl2⟩ := b1.2 i i0 i1
    have b06 := b0.1
    have b16 := b1.1
    have x1 := (gi2 j j0 j1).trans c1
    have x2 := (gl2 j j0 j1).trans c2
    have ht := hd.2.2.1 (8 * i + j) (by omega) (by omega)
    refine w_if_eq (pc' := 9) (tgt := 21) dX10_shown_6 rfl rfl (fun h_ => False.elim (by first | omega | (simp (decide := true) only [au_1, nu_2, au_lt, nu_lt, aw_e, nw_e, au_s, au_n, nu_s, nu_n, au_au, nu_nu, au_nu] at h_; omega))) (fun h_ => ?_)
    refine w_aload_n (pc' := 10) dX10_shown_9 rfl rfl ?_
    refine w_get 2 (pc' := 13) dX10_shown_10 rfl fX10_31_8 hO rfl ?_
    refine w_iload_n (pc' := 14) dX10_shown_13 rfl rfl ?_
    refine w_aaldM (pc' := 15) dX10_shown_14 rfl b06 i0 i1 ?_
    refine w_iload_n (pc' := 16) dX10_shown_15 rfl rfl ?_
    refine w_iald (pc' := 17) dX10_shown_16 rfl gi1 j0 j1 ?_
    -- at 17: .iconst 1
    rw [x1]
    unfold isB
    rw [Int.add_assoc]
    unfold lyB at x2
    rw [if_pos ⟨⟨i0, by omega⟩, j0, by omega⟩, Int.add_assoc] at x2
    refine w_iconst (pc' := 18) dX10_shown_17 rfl (by decide) ?_
    -- at 18: .if_icmp .ne 8
    by_cases p : σ.2 37 (64 * f + (8 * i + j)) = -2
    · rw [if_pos p]
      refine w_icmp_ne (pc' := 21) (tgt := 26) dX10_shown_18 rfl rfl (fun h_ => False.elim (by first | omega | (simp (decide := true) only [au_1, nu_2, au_lt, nu_lt, aw_e, nw_e, au_s, au_n, nu_s, nu_n, au_au, nu_nu, au_nu] at h_; omega))) (fun h_ => ?_)
      exact no (Or.inr p)
    · rw [if_neg p]
      rw [ic_t hpl, if_neg p] at h
      unfold shc at h
      rw [if_neg p] at x2
      have nx : tvW mX10_shown (d + 1) K 26 [some (xR (fO f)), some (xI i), some (xI j)] [] G bc bs := by
        refine w_aload_n (pc' := 27) dX10_shown_26 rfl rfl ?_
        refine w_get 5 (pc' := 30) dX10_shown_27 rfl fX10_34_8 hO rfl ?_
        refine w_iload_n (pc' := 31) dX10_shown_30 rfl rfl ?_
        refine w_aaldM (pc' := 32) dX10_shown_31 rfl b16 i0 i1 ?_
        refine w_iload_n (pc' := 33) dX10_shown_32 rfl rfl ?_
        refine w_iald (pc' := 34) dX10_shown_33 rfl gl1 j0 j1 ?_
        -- at 34: .ireturn
        rw [x2]
        refine w_ireturn dX10_shown_34 rfl ?_
        exact h
      by_cases p2 : σ.2 37 (64 * f + (8 * i + j)) = 0
      · rw [if_pos p2]
        refine w_icmp_ne (pc' := 21) (tgt := 26) dX10_shown_18 rfl rfl (fun h_ => ?_) (fun h_ => False.elim (by first | omega | (simp (decide := true) only [au_1, nu_2, au_lt, nu_lt, aw_e, nw_e, au_s, au_n, nu_s, nu_n, au_au, nu_nu, au_nu] at h_; omega)))
        exact nx
      · rw [if_neg p2]
        refine w_icmp_ne (pc' := 21) (tgt := 26) dX10_shown_18 rfl rfl (fun h_ => ?_) (fun h_ => False.elim (by first | omega | (simp (decide := true) only [au_1, nu_2, au_lt, nu_lt, aw_e, nw_e, au_s, au_n, nu_s, nu_n, au_au, nu_nu, au_nu] at h_; omega)))
        exact nx
  · refine w_if_eq (pc' := 9) (tgt := 21) dX10_shown_6 rfl rfl (fun h_ => ?_) (fun h_ => False.elim (by first | omega | (simp (decide := true) only [au_1, nu_2, au_lt, nu_lt, aw_e, nw_e, au_s, au_n, nu_s, nu_n, au_au, nu_nu, au_nu] at h_; omega)))
    exact no (Or.inl (fun p => q ⟨⟨p.2.1.1, by have := p.2.1.2; omega⟩, p.2.2.1, by have := p.2.2.2; omega⟩))
theorem c_X0_shown {f i j : Int} (hw : Rx σ w G) (hF : fo1 σ) (h : K (some (xI (aShown σ f i j))) G) : tvW mX0_shown (d + 4) K 0 [some (xR oR), some (xI f), some (xI i), some (xI j), none] [] G bc bs := by
  have hof := hw.1
  unfold off at hof
  refine w_aload_n (pc' := 1) dX0_shown_0 rfl rfl ?_
  refine w_iload_n (pc' := 2) dX0_shown_1 rfl rfl ?_
  -- at 2: .invokevirtual 336
  refine w_callV1 (pc' := 5) (mc := 0) (ms := 0) dX0_shown_2 rfl tX0_floor_2 q942 rfl rfl qs24 q940 hof rfl (Nat.le_of_ble_eq_true rfl) (Nat.le_of_ble_eq_true rfl) ?_
  refine c_X0_floor_2 hw (fun f0 f1 => w_p1 ?_) (fun g => w_p1 ?_)
  · have hfl := Rflo_1 hw.2.2.2.2.2.2.2.1 f0 f1
    obtain ⟨H, W, z, is, ly, sk, lf, to, wa, on, eH, eW, ⟨⟨z0, z1, z2, z3, z4, z5, z6, z7, z8, z9, ez, hO⟩, -⟩, -⟩ := id hfl
    refine w_ast4 (pc' := 7) dX0_shown_5 rfl rfl ?_
    refine w_aload (pc' := 9) dX0_shown_7 rfl rfl ?_
    -- at 9: .ifnonnull 8
    refine w_ifnonnull (pc' := 12) (tgt := 17) dX0_shown_9 rfl rfl (fun h_ => ?_) (fun h_ => False.elim (nomatch h_))
    refine w_aload (pc' := 19) dX0_shown_17 rfl rfl ?_
    refine w_iload_n (pc' := 20) dX0_shown_19 rfl rfl ?_
    refine w_iload_n (pc' := 21) dX0_shown_20 rfl rfl ?_
    -- at 21: .invokevirtual 359
    refine w_callV2 (pc' := 24) (mc := 0) (ms := 0) dX0_shown_21 rfl tX10_shown q1054 rfl rfl q1055 q1053 hO rfl (Nat.le_of_ble_eq_true rfl) (Nat.le_of_ble_eq_true rfl) ?_
    refine c_X10_shown hfl hF ⟨f0, f1⟩ ?_
    refine w_p1 ?_
    refine w_ireturn dX0_shown_24 rfl ?_
    exact h
  · unfold aShown at h
    rw [ic_f (fun p => g p.1)] at h
    refine w_ast4 (pc' := 7) dX0_shown_5 rfl rfl ?_
    refine w_aload (pc' := 9) dX0_shown_7 rfl rfl ?_
    -- at 9: .ifnonnull 8
    refine w_ifnonnull (pc' := 12) (tgt := 17) dX0_shown_9 rfl rfl (fun h_ => False.elim (h_ rfl)) (fun h_ => ?_)
    refine w_bipush (pc' := 14) dX0_shown_12 rfl (by decide +kernel) (by decide) ?_
    refine w_goto (tgt := 24) dX0_shown_14 rfl ?_
    -- at 24: .ireturn
    refine w_ireturn dX0_shown_24 rfl ?_
    exact h
theorem c_X0_stock {f k n : Int} (hw : Rx σ w G) (hK : kok σ) (hF : fo1 σ) (h1 : stkOk σ f k n → ∀ G', tfr G G' → Rel (au σ 39 (iset (σ.2 39) (40 * f + k) n)) G' → K (some (xI 1)) G') (h0 : ¬ stkOk σ f k n → K (some (xI 0)) G) : tvW mX0_stock (d + 4) K 0 [some (xR oR), some (xI f), some (xI k), some (xI n), none] [] G bc bs := by
  have hof := hw.1
  unfold off at hof
  unfold stkOk at h1 h0
  have hk1 := hK.1
  have bad : ∀ o, ¬ ((0 ≤ f ∧ f < σ.1 40) ∧ (0 ≤ k ∧ k < σ.1 5) ∧ 0 ≤ n ∧ n ≤ 99) → tvW mX0_stock (d + 4) K 30 [some (xR oR), some (xI f), some (xI k), some (xI n), some (xO o)] [] G bc bs := by
    intro o q
    refine w_iconst (pc' := 31) dX0_stock_30 rfl (by decide) ?_
    -- at 31: .ireturn
    refine w_zreturn dX0_stock_31 rfl (by first | exact Or.inl rfl | exact Or.inr rfl | omega) ?_
    exact h0 q
  refine w_aload_n (pc' := 1) dX0_stock_0 rfl rfl ?_
  refine w_iload_n (pc' := 2) dX0_stock_1 rfl rfl ?_
  -- at 2: .invokevirtual 336
  refine w_callV1 (pc' := 5) (mc := 0) (ms := 0) dX0_stock_2 rfl tX0_floor_2 q942 rfl rfl qs24 q940 hof rfl (Nat.le_of_ble_eq_true rfl) (Nat.le_of_ble_eq_true rfl) ?_
  refine c_X0_floor_2 hw (fun f0 f1 => w_p1 ?_) (fun g => w_p1 ?_)
  · have hfl := Rflo_1 hw.2.2.2.2.2.2.2.1 f0 f1
    obtain ⟨H, W, z, is, ly, sk, lf, to, wa, on, eH, eW, ⟨⟨z0, z1, z2, z3, z4, z5, z6, z7, z8, z9, ez, hO⟩, b0, b1, b2, b3, b4, s0, s1⟩, hc, hs⟩ := hfl
    refine w_ast4 (pc' := 7) dX0_stock_5 rfl rfl ?_
    refine w_aload (pc' := 9) dX0_stock_7 rfl rfl ?_
    -- at 9: .ifnull 21
    refine w_ifnull (pc' := 12) (tgt := 30) dX0_stock_9 rfl rfl (fun h_ => False.elim (nomatch h_)) (fun h_ => ?_)
    refine w_aload_n (pc' := 13) dX0_stock_12 rfl rfl ?_
    refine w_iload_n (pc' := 14) dX0_stock_13 rfl rfl ?_
    -- at 14: .invokevirtual 102
    refine w_callV1 (pc' := 17) (mc := 0) (ms := 0) dX0_stock_14 rfl tX0_isKind q321 rfl rfl qs3 q319 hof rfl (Nat.le_of_ble_eq_true rfl) (Nat.le_of_ble_eq_true rfl) ?_
    refine c_X0_isKind hw (fun k0 k1 => w_p1 ?_) (fun g => w_p1 ?_)
    · refine w_if_eq (pc' := 20) (tgt := 30) dX0_stock_17 rfl rfl (fun h_ => False.elim (by first | omega | (simp (decide := true) only [au_1, nu_2, au_lt, nu_lt, aw_e, nw_e, au_s, au_n, nu_s, nu_n, au_au, nu_nu, au_nu] at h_; omega))) (fun h_ => ?_)
      refine w_iload_n (pc' := 21) dX0_stock_20 rfl rfl ?_
      -- at 21: .ifCond .lt 9
      refine w_if_lt (pc' := 24) (tgt := 30) dX0_stock_21 rfl rfl (fun q1 => ?_) (fun q1 => ?_)
      · exact bad _ (by omega)
      · refine w_iload_n (pc' := 25) dX0_stock_24 rfl rfl ?_
        refine w_bipush (pc' := 27) dX0_stock_25 rfl (by decide +kernel) (by decide) ?_
        -- at 27: .if_icmp .le 5
        refine w_icmp_le (pc' := 30) (tgt := 32) dX0_stock_27 rfl rfl (fun q2 => ?_) (fun q2 => ?_)
        · obtain ⟨pl, cl, N, b, rg⟩ := w
          refine w_aload (pc' := 34) dX0_stock_32 rfl rfl ?_
          refine w_get 3 (pc' := 37) dX0_stock_34 rfl fX0_344_8 hO rfl ?_
          refine w_iload_n (pc' := 38) dX0_stock_37 rfl rfl ?_
          refine w_iload_n (pc' := 39) dX0_stock_38 rfl rfl ?_
          refine w_iast (pc' := 40) dX0_stock_39 rfl s0 k0 (by omega)  ?_
          -- at 40: .iconst 1
          refine w_upd (fun G1 a1 g1 => ?_)
          have hO := (g1 _ (rl_ne (by omega))).trans hO
          have s1 := (g1 _ (rl_ne (by omega))).trans s1
          refine w_iconst (pc' := 41) dX0_stock_40 rfl (by decide) ?_
          -- at 41: .ireturn
          refine w_zreturn dX0_stock_41 rfl (by first | exact Or.inl rfl | exact Or.inr rfl | omega) ?_
          have fr : ffr f G G1 := ffr_s (by omega) g1
          refine h1 ⟨⟨f0, f1⟩, ⟨k0, k1⟩, by omega, by omega⟩ G1 (fun q hq => fr q (by omega) (by omega)) ⟨_, Rx_flo hw hF f0 f1 (fun _ _ _ => rfl) (fun k hk => if_neg (by omega)) (fun f' a0 a1 e => ⟨fun _ _ _ => rfl, fun _ _ _ => rfl, fun z z0 z1 => ?_⟩) (fun q q1 q2 q3 => fr q q2 q3) ((fr oR (by simp only []; omega) (by simp only []; omega)).trans (Rx_un hw).1) ⟨H, W, z, is, ly, _, lf, to, wa, on, eH, eW, ⟨⟨z0, z1, z2, z3, z4, z5, z6, z7, z8, z9, ez, hO⟩, fbd_fr (g1 _ (rl_ne (by omega))) (fun i => g1 _ (rl_ne (by omega))) b0, fbd_fr (g1 _ (rl_ne (by omega))) (fun i => g1 _ (rl_ne (by omega))) b1, fbd_fr (g1 _ (rl_ne (by omega))) (fun i => g1 _ (rl_ne (by omega))) b2, fbd_fr (g1 _ (rl_ne (by omega))) (fun i => g1 _ (rl_ne (by omega))) b3, fbd_fr (g1 _ (rl_ne (by omega))) (fun i => g1 _ (rl_ne (by omega))) b4, a1, s1⟩, hc, fun z z0 z1 => ?_⟩⟩
          · show iset (σ.2 39) (40 * f + k) n (40 * f' + z) = _
            unfold iset
            rw [if_neg (by omega)]
          · show iset sk k n z = iset (σ.2 39) (40 * f + k) n (40 * f + z)
            unfold iset
            by_cases e : z = k
            · rw [if_pos e, if_pos (by omega)]
            · rw [if_neg e, if_neg (by omega)]
              exact hs z z0 z1
        · exact bad _ (by omega)
    · refine w_if_eq (pc' := 20) (tgt := 30) dX0_stock_17 rfl rfl (fun h_ => ?_) (fun h_ => False.elim (by first | omega | (simp (decide := true) only [au_1, nu_2, au_lt, nu_lt, aw_e, nw_e, au_s, au_n, nu_s, nu_n, au_au, nu_nu, au_nu] at h_; omega)))
      exact bad _ (fun q => g q.2.1)
  · refine w_ast4 (pc' := 7) dX0_stock_5 rfl rfl ?_
    refine w_aload (pc' := 9) dX0_stock_7 rfl rfl ?_
    -- at 9: .ifnull 21
    refine w_ifnull (pc' := 12) (tgt := 30) dX0_stock_9 rfl rfl (fun h_ => ?_) (fun h_ => False.elim (h_ rfl))
    exact bad _ (fun q => g q.1)
theorem c_X10_place {f i j k m u ma li : Int} {rg : Option Rl} (hfl : fl1 σ G f) (hF : fo1 σ) (hf : 0 ≤ f ∧ f < σ.1 40) (hK : kok σ) (hkin : Rkin σ G) (hof : off G u ma li rg) (hkm : k = -2 ∨ k = -1 ∨ (0 ≤ k ∧ k < σ.1 5) ∧ 0 ≤ m ∧ m < 8) (h1 : isPl σ f i j → ∀ G', ffr f G G' → fl1 (sPlace σ f i j k m) G' f → K (some (xI 1)) G') (h0 : ¬ isPl σ f i j → K (some (xI 0)) G) : tvW mX10_place (d + 3) K 0 [some (xR (fO f)), some (xI i), some (xI j), some (xI k), some (xI m)] [] G bc bs := by
  obtain ⟨H, W, z, is, ly, sk, lf, to, wa, on, eH, eW, ⟨⟨z0, z1, z2, z3, z4, z5, z6, z7, z8, z9, ez, hO⟩, b0, b1, b2, b3, b4, s0, s1⟩, hc, hs⟩ := hfl
  have hd := hF.2 f hf.1 hf.2
  have hk1 := hK.1
  refine w_aload_n (pc' := 1) dX10_place_0 rfl rfl ?_
  refine w_iload_n (pc' := 2) dX10_place_1 rfl rfl ?_
  refine w_iload_n (pc' := 3) dX10_place_2 rfl rfl ?_
  -- at 3: .invokevirtual 48
  refine w_callV2 (pc' := 6) (mc := 0) (ms := 0) dX10_place_3 rfl tX10_has q950 rfl rfl qs25 q948 hO rfl (Nat.le_of_ble_eq_true rfl) (Nat.le_of_ble_eq_true rfl) ?_
  refine c_X10_has hO (fun q => w_p1 ?_) (fun q => w_p1 ?_)
  · obtain ⟨⟨i0, i1⟩, j0, j1⟩ := q
    have h1 := h1 ⟨hf, ⟨i0, by omega⟩, j0, by omega⟩
    clear h0
    obtain ⟨gi, gi1, -⟩ := b0.2 i i0 i1
    obtain ⟨gl, gl1, -⟩ := b1.2 i i0 i1
    have b06 := b0.1
    have b16 := b1.1
    have e37 : ∀ z, (sPlace σ f i j k m).2 37 z = iset (σ.2 37) (64 * f + 8 * i + j) (tcel σ k m) z := fun _ => rfl
    have e38 : ∀ z, (sPlace σ f i j k m).2 38 z = iset (σ.2 38) (64 * f + 8 * i + j) 0 z := fun _ => rfl
    have fin : ∀ (v l : Int), v = (if tcel σ k m = -2 then 1 else if tcel σ k m = 0 then 0 else 2) → l = (if 0 < tcel σ k m then tcel σ k m else 0) - 1 → ∀ (G1 G2 : GH), G1 (27, 8 * f + 0, i) = some (xar 0 W (iset gi j v)) → (∀ q, q ≠ ((27, 8 * f + 0, i) : Rl) → G1 q = G q) → G2 (27, 8 * f + 1, i) = some (xar 0 W (iset gl j l)) → (∀ q, q ≠ ((27, 8 * f + 1, i) : Rl) → G2 q = G1 q) → K (some (xI 1)) G2 := by
      intro v l ev el G1 G2 a1 f1 a2 f2
      have hcel : tcel σ k m = -2 ∨ 0 ≤ tcel σ k m := by
        unfold tcel
        split
        · exact Or.inl rfl
        · split
          · exact Or.inr (Int.le_refl _)
          · obtain ⟨⟨k0, k2⟩, m0, m1⟩ : (0 ≤ k ∧ k < σ.1 5) ∧ 0 ≤ m ∧ m < 8 := by omega
            obtain ⟨-, tT, -, -⟩ := hK.2 k k0 k2
            have hl := lie_r (mir := σ.2 3 k) tT m0 m1
            right
            unfold cel
            omega
      have c0 := fbd_fr (G' := G2) (f2 _ (rl_ne (by omega))) (fun z => f2 _ (rl_ne (by omega))) (fbd_s b0 gi1 a1 f1)
      have c1 := fbd_s (fbd_fr (G' := G1) (f1 _ (rl_ne (by omega))) (fun z => f1 _ (rl_ne (by omega))) b1) ((f1 _ (rl_ne (by omega))).trans gl1) a2 f2
      refine h1 G2 (ffr_t (ffr_7 (by omega) f1) (ffr_7 (by omega) f2)) ⟨H, W, z, _, _, sk, lf, to, wa, on, eH, eW, ⟨⟨z0, z1, z2, z3, z4, z5, z6, z7, z8, z9, ez, by rw [f2 _ (rl_ne (by omega)), f1 _ (rl_ne (by omega))]; exact hO⟩, c0, c1, fbd_fr (f2 _ (rl_ne (by omega))) (fun i => f2 _ (rl_ne (by omega))) (fbd_fr (f1 _ (rl_ne (by omega))) (fun i => f1 _ (rl_ne (by omega))) b2), fbd_fr (f2 _ (rl_ne (by omega))) (fun i => f2 _ (rl_ne (by omega))) (fbd_fr (f1 _ (rl_ne (by omega))) (fun i => f1 _ (rl_ne (by omega))) b3), fbd_fr (f2 _ (rl_ne (by omega))) (fun i => f2 _ (rl_ne (by omega))) (fbd_fr (f1 _ (rl_ne (by omega))) (fun i => f1 _ (rl_ne (by omega))) b4), by rw [f2 _ (rl_ne (by omega)), f1 _ (rl_ne (by omega))]; exact s0, by rw [f2 _ (rl_ne (by omega)), f1 _ (rl_ne (by omega))]; exact s1⟩, fun y x y0 y1 x0 x1 => ?_, hs⟩
      obtain ⟨p1, p2⟩ := hc y x y0 y1 x0 x1
      have x37 := e37 (64 * f + 8 * y + x)
      have x38 := e38 (64 * f + (8 * y + x))
      unfold upd2
      by_cases e : y = i ∧ x = j
      · rw [if_pos e, if_pos e]
        unfold iset at x37 x38
        rw [if_pos (by omega)] at x37 x38
        unfold isB lyB
        rw [x37, if_pos (show (0 ≤ y ∧ y < (sPlace σ f i j k m).2 35 f) ∧ 0 ≤ x ∧ x < (sPlace σ f i j k m).2 36 f from ⟨⟨y0, by show y < σ.2 35 f; omega⟩, x0, by show x < σ.2 36 f; omega⟩)]
        simp only []
        rw [x38, ev, el]
        refine ⟨rfl, ?_⟩
        by_cases q1 : 0 < tcel σ k m
        · rw [if_pos q1, if_pos q1]
        · rw [if_neg q1, if_neg q1]
          split <;> rfl
      · rw [if_neg e, if_neg e, p1, p2]
        unfold iset at x37 x38
        rw [if_neg (by omega)] at x37 x38
        unfold isB lyB
        rw [x37]
        refine ⟨rfl, ?_⟩
        show _ = (if (0 ≤ y ∧ y < σ.2 35 f) ∧ 0 ≤ x ∧ x < σ.2 36 f then _ else _) - 1
        simp only []
        rw [x38]
    refine w_if_ne (pc' := 9) (tgt := 11) dX10_place_6 rfl rfl (fun h_ => ?_) (fun h_ => False.elim (by first | omega | (simp (decide := true) only [au_1, nu_2, au_lt, nu_lt, aw_e, nw_e, au_s, au_n, nu_s, nu_n, au_au, nu_nu, au_nu] at h_; omega)))
    have two : ∀ v : Int, v = (if tcel σ k m = -2 then 1 else if tcel σ k m = 0 then 0 else 2) → tvW mX10_place (d + 3) K 38 [some (xR (fO f)), some (xI i), some (xI j), some (xI k), some (xI m)] [xI v, xI j, xR (27, 8 * f + 0, i)] G bc bs := by
      intro v ev
      refine w_iast (pc' := 39) dX10_place_38 rfl gi1 j0 j1  ?_
      -- at 39: .aload_n 0
      refine w_upd (fun G1 a1 f1 => ?_)
      have hO := (f1 _ (rl_ne (by omega))).trans hO
      have b16 := (f1 _ (rl_ne (by omega))).trans b16
      have gl1 := (f1 _ (rl_ne (by omega))).trans gl1
      have kin1 : Rkin σ G1 := Rkin_fr2 (fun q hq => f1 q (fun z => by rw [z] at hq; simp only [] at hq; omega)) hkin
      have hof1 := (f1 oR (rl_ne (by omega))).trans hof
      unfold off at hof1
      have three : ∀ l : Int, l = (if 0 < tcel σ k m then tcel σ k m else 0) - 1 → tvW mX10_place (d + 3) K 78 [some (xR (fO f)), some (xI i), some (xI j), some (xI k), some (xI m)] [xI l, xI j, xR (27, 8 * f + 1, i)] G1 bc bs := by
        intro l el
        refine w_iast (pc' := 79) dX10_place_78 rfl gl1 j0 j1  ?_
        -- at 79: .iconst 1
        refine w_upd (fun G2 a2 f2 => ?_)
        refine w_iconst (pc' := 80) dX10_place_79 rfl (by decide) ?_
        -- at 80: .ireturn
        refine w_zreturn dX10_place_80 rfl (by first | exact Or.inl rfl | exact Or.inr rfl | omega) ?_
        exact fin v l ev el G1 G2 a1 f1 a2 f2
      refine w_aload_n (pc' := 40) dX10_place_39 rfl rfl ?_
      refine w_get 5 (pc' := 43) dX10_place_40 rfl fX10_34_8 hO rfl ?_
      refine w_iload_n (pc' := 44) dX10_place_43 rfl rfl ?_
      refine w_aaldM (pc' := 45) dX10_place_44 rfl b16 i0 i1 ?_
      refine w_iload_n (pc' := 46) dX10_place_45 rfl rfl ?_
      refine w_iload_n (pc' := 47) dX10_place_46 rfl rfl ?_
      -- at 47: .ifCond .ge 7
      refine w_if_ge (pc' := 50) (tgt := 54) dX10_place_47 rfl rfl (fun q => ?_) (fun q => ?_)
      · obtain ⟨⟨k0, k2⟩, m0, m1⟩ : (0 ≤ k ∧ k < σ.1 5) ∧ 0 ≤ m ∧ m < 8 := by omega
        obtain ⟨-, tT, -, -⟩ := hK.2 k k0 k2
        have hl := lie_r (mir := σ.2 3 k) tT m0 m1
        have tl := kin1.2 k k0 k2
        obtain ⟨lf, hlO⟩ := lst_o kin1.1
        have et : tcel σ k m = 8 * k + lie (σ.2 3 k) (σ.2 1 k) m + 1 := by
          unfold tcel cel
          rw [if_neg (by omega), if_neg (by omega)]
          omega
        refine w_bipush (pc' := 56) dX10_place_54 rfl (by decide +kernel) (by decide) ?_
        refine w_iload_n (pc' := 57) dX10_place_56 rfl rfl ?_
        refine w_imul (pc' := 58) dX10_place_57 rfl ⟨by first | omega | (simp (decide := true) only [au_1, nu_2, au_lt, nu_lt, aw_e, nw_e, au_s, au_n, nu_s, nu_n, au_au, nu_nu, au_nu]; omega), by first | omega | (simp (decide := true) only [au_1, nu_2, au_lt, nu_lt, aw_e, nw_e, au_s, au_n, nu_s, nu_n, au_au, nu_nu, au_nu]; omega)⟩ ?_
        refine w_aload_n (pc' := 59) dX10_place_58 rfl rfl ?_
        refine w_get 19 (pc' := 62) dX10_place_59 rfl fX10_3_8 hO rfl ?_
        refine w_get 0 (pc' := 65) dX10_place_62 rfl fX10_52_0 hof1 rfl ?_
        refine w_iload_n (pc' := 66) dX10_place_65 rfl rfl ?_
        -- at 66: .invokevirtual 56
        refine w_callV1 (pc' := 69) (mc := 0) (ms := 0) dX10_place_66 rfl tJ2_get q211 rfl rfl q212 q952 hlO rfl (Nat.le_of_ble_eq_true rfl) (Nat.le_of_ble_eq_true rfl) ?_
        refine c_J2_get kin1.1 ⟨k0, k2⟩ ?_
        refine w_p1 ?_
        refine w_cast (pc' := 72) dX10_place_69 rfl tl.1 rfl q953 ?_
        refine w_iload (pc' := 74) dX10_place_72 rfl rfl ?_
        -- at 74: .invokevirtual 76
        refine w_callV1 (pc' := 77) (mc := 0) (ms := 0) dX10_place_74 rfl tX2_lies q327 rfl rfl q328 q954 tl.1 rfl (Nat.le_of_ble_eq_true rfl) (Nat.le_of_ble_eq_true rfl) ?_
        refine c_X2_lies tl tT ⟨m0, m1⟩ ?_
        refine w_p1 ?_
        refine w_iadd (pc' := 78) dX10_place_77 rfl ⟨by first | omega | (simp (decide := true) only [au_1, nu_2, au_lt, nu_lt, aw_e, nw_e, au_s, au_n, nu_s, nu_n, au_au, nu_nu, au_nu]; omega), by first | omega | (simp (decide := true) only [au_1, nu_2, au_lt, nu_lt, aw_e, nw_e, au_s, au_n, nu_s, nu_n, au_au, nu_nu, au_nu]; omega)⟩ ?_
        -- at 78: .iastore
        refine three _ ?_
        rw [et, if_pos (by omega)]
        omega
      · have et : ¬ 0 < tcel σ k m := by
          unfold tcel
          split
          · decide
          · rw [if_pos (by omega)]
            decide
        refine w_iconst (pc' := 51) dX10_place_50 rfl (by decide) ?_
        refine w_goto (tgt := 78) dX10_place_51 rfl ?_
        -- at 78: .iastore
        refine three _ ?_
        rw [if_neg et]
        rfl
    refine w_aload_n (pc' := 12) dX10_place_11 rfl rfl ?_
    refine w_get 2 (pc' := 15) dX10_place_12 rfl fX10_31_8 hO rfl ?_
    refine w_iload_n (pc' := 16) dX10_place_15 rfl rfl ?_
    refine w_aaldM (pc' := 17) dX10_place_16 rfl b06 i0 i1 ?_
    refine w_iload_n (pc' := 18) dX10_place_17 rfl rfl ?_
    refine w_iload_n (pc' := 19) dX10_place_18 rfl rfl ?_
    refine w_bipush (pc' := 21) dX10_place_19 rfl (by decide +kernel) (by decide) ?_
    -- at 21: .if_icmp .ne 7
    refine w_icmp_ne (pc' := 24) (tgt := 28) dX10_place_21 rfl rfl (fun q => ?_) (fun q => ?_)
    · refine w_iload_n (pc' := 29) dX10_place_28 rfl rfl ?_
      refine w_iconst (pc' := 30) dX10_place_29 rfl (by decide) ?_
      -- at 30: .if_icmp .ne 7
      refine w_icmp_ne (pc' := 33) (tgt := 37) dX10_place_30 rfl rfl (fun q2 => ?_) (fun q2 => ?_)
      · obtain ⟨⟨k0, k2⟩, m0, m1⟩ : (0 ≤ k ∧ k < σ.1 5) ∧ 0 ≤ m ∧ m < 8 := by omega
        obtain ⟨-, tT, -, -⟩ := hK.2 k k0 k2
        have hl := lie_r (mir := σ.2 3 k) tT m0 m1
        have et : tcel σ k m = 8 * k + lie (σ.2 3 k) (σ.2 1 k) m + 1 := by
          unfold tcel cel
          rw [if_neg (by omega), if_neg (by omega)]
          omega
        refine w_iconst (pc' := 38) dX10_place_37 rfl (by decide) ?_
        -- at 38: .iastore
        refine two 2 ?_
        rw [et, if_neg (by omega), if_neg (by omega)]
      · have et : tcel σ k m = 0 := by
          unfold tcel
          rw [if_neg q, if_pos q2]
        refine w_iconst (pc' := 34) dX10_place_33 rfl (by decide) ?_
        refine w_goto (tgt := 38) dX10_place_34 rfl ?_
        -- at 38: .iastore
        refine two 0 ?_
        rw [et]
        rfl
    · have et : tcel σ k m = -2 := if_pos q
      refine w_iconst (pc' := 25) dX10_place_24 rfl (by decide) ?_
      refine w_goto (tgt := 38) dX10_place_25 rfl ?_
      -- at 38: .iastore
      refine two 1 ?_
      rw [et]
      rfl
  · refine w_if_ne (pc' := 9) (tgt := 11) dX10_place_6 rfl rfl (fun h_ => False.elim (by first | omega | (simp (decide := true) only [au_1, nu_2, au_lt, nu_lt, aw_e, nw_e, au_s, au_n, nu_s, nu_n, au_au, nu_nu, au_nu] at h_; omega))) (fun h_ => ?_)
    refine w_iconst (pc' := 10) dX10_place_9 rfl (by decide) ?_
    -- at 10: .ireturn
    refine w_zreturn dX10_place_10 rfl (by first | exact Or.inl rfl | exact Or.inr rfl | omega) ?_
    exact h0 (fun p => q ⟨⟨p.2.1.1, by have := p.2.1.2; omega⟩, p.2.2.1, by have := p.2.2.2; omega⟩)
theorem c_X0_place {f i j k m : Int} (hw : Rx σ w G) (hK : kok σ) (hF : fo1 σ) (h1 : plcOk σ f i j k m → ∀ G', tfr G G' → Rel (sPlace σ f i j k m) G' → K (some (xI 1)) G') (h0 : ¬ plcOk σ f i j k m → K (some (xI 0)) G) : tvW mX0_place (d + 4) K 0 [some (xR oR), some (xI f), some (xI i), some (xI j), some (xI k), some (xI m), none] [] G bc bs := by
  have hof := hw.1
  unfold off at hof
  unfold plcOk at h1 h0
  have bad : ∀ o, ¬ (isPl σ f i j ∧ (k = -2 ∨ k = -1 ∨ (0 ≤ k ∧ k < σ.1 5) ∧ 0 ≤ m ∧ m < 8)) → tvW mX0_place (d + 4) K 60 [some (xR oR), some (xI f), some (xI i), some (xI j), some (xI k), some (xI m), some (xO o)] [] G bc bs := by
    intro o q
    refine w_iconst (pc' := 61) dX0_place_60 rfl (by decide) ?_
    -- at 61: .ireturn
    refine w_zreturn dX0_place_61 rfl (by first | exact Or.inl rfl | exact Or.inr rfl | omega) ?_
    exact h0 q
  refine w_aload_n (pc' := 1) dX0_place_0 rfl rfl ?_
  refine w_iload_n (pc' := 2) dX0_place_1 rfl rfl ?_
  -- at 2: .invokevirtual 336
  refine w_callV1 (pc' := 5) (mc := 0) (ms := 0) dX0_place_2 rfl tX0_floor_2 q942 rfl rfl qs24 q940 hof rfl (Nat.le_of_ble_eq_true rfl) (Nat.le_of_ble_eq_true rfl) ?_
  refine c_X0_floor_2 hw (fun f0 f1 => w_p1 ?_) (fun g => w_p1 ?_)
  · have hfl := Rflo_1 hw.2.2.2.2.2.2.2.1 f0 f1
    obtain ⟨H, W, z, is, ly, sk, lf, to, wa, on, eH, eW, ⟨⟨z0, z1, z2, z3, z4, z5, z6, z7, z8, z9, ez, hO⟩, -⟩, -⟩ := id hfl
    have hd := hF.2 f f0 f1
    have go : (k = -2 ∨ k = -1 ∨ (0 ≤ k ∧ k < σ.1 5) ∧ 0 ≤ m ∧ m < 8) → tvW mX0_place (d + 4) K 42 [some (xR oR), some (xI f), some (xI i), some (xI j), some (xI k), some (xI m), some (xR (fO f))] [] G bc bs := by
      intro hkm
      obtain ⟨pl, cl, N, b, rg⟩ := w
      refine w_aload (pc' := 44) dX0_place_42 rfl rfl ?_
      refine w_iload_n (pc' := 45) dX0_place_44 rfl rfl ?_
      refine w_iload_n (pc' := 46) dX0_place_45 rfl rfl ?_
      refine w_iload (pc' := 48) dX0_place_46 rfl rfl ?_
      refine w_iload (pc' := 50) dX0_place_48 rfl rfl ?_
      -- at 50: .invokevirtual 340
      refine w_callV4 (pc' := 53) (mc := 0) (ms := 0) dX0_place_50 rfl tX10_place q945 rfl rfl q946 q944 hO rfl (Nat.le_of_ble_eq_true rfl) (Nat.le_of_ble_eq_true rfl) ?_
      refine c_X10_place hfl hF ⟨f0, f1⟩ hK (Rx_un hw).2.1 (Rx_un hw).1 hkm (fun p G1 fr hn => w_p1 ?_) (fun p => w_p1 ?_)
      · refine w_if_eq (pc' := 56) (tgt := 60) dX0_place_53 rfl rfl (fun h_ => False.elim (by first | omega | (simp (decide := true) only [au_1, nu_2, au_lt, nu_lt, aw_e, nw_e, au_s, au_n, nu_s, nu_n, au_au, nu_nu, au_nu] at h_; omega))) (fun h_ => ?_)
        refine w_iconst (pc' := 57) dX0_place_56 rfl (by decide) ?_
        refine w_goto (tgt := 61) dX0_place_57 rfl ?_
        -- at 61: .ireturn
        refine w_zreturn dX0_place_61 rfl (by first | exact Or.inl rfl | exact Or.inr rfl | omega) ?_
        refine h1 ⟨p, hkm⟩ G1 (fun q hq => fr q (by omega) (by omega)) ⟨_, Rx_flo hw hF f0 f1 (fun _ _ _ => rfl) (fun k hk => ?_) (fun f' a0 a1 e => ⟨fun z z0 z1 => ?_, fun z z0 z1 => ?_, fun _ _ _ => rfl⟩) (fun q q1 q2 q3 => fr q q2 q3) ((fr oR (by simp only []; omega) (by simp only []; omega)).trans (Rx_un hw).1) hn⟩
        · show (if k = 38 then _ else if k = 37 then _ else _) = _
          rw [if_neg (by omega), if_neg (by omega)]
        · have := p.2
          show iset (σ.2 37) (64 * f + 8 * i + j) (tcel σ _ m) (64 * f' + z) = _
          unfold iset
          rw [if_neg (by omega)]
        · have := p.2
          show iset (σ.2 38) (64 * f + 8 * i + j) 0 (64 * f' + z) = _
          unfold iset
          rw [if_neg (by omega)]
      · refine w_if_eq (pc' := 56) (tgt := 60) dX0_place_53 rfl rfl (fun h_ => ?_) (fun h_ => False.elim (by first | omega | (simp (decide := true) only [au_1, nu_2, au_lt, nu_lt, aw_e, nw_e, au_s, au_n, nu_s, nu_n, au_au, nu_nu, au_nu] at h_; omega)))
        exact bad _ (fun q => p q.1)
    refine w_ast6 (pc' := 7) dX0_place_5 rfl rfl ?_
    refine w_aload (pc' := 9) dX0_place_7 rfl rfl ?_
    -- at 9: .ifnull 51
    refine w_ifnull (pc' := 12) (tgt := 60) dX0_place_9 rfl rfl (fun h_ => False.elim (nomatch h_)) (fun h_ => ?_)
    refine w_iload (pc' := 14) dX0_place_12 rfl rfl ?_
    refine w_bipush (pc' := 16) dX0_place_14 rfl (by decide +kernel) (by decide) ?_
    -- at 16: .if_icmp .eq 26
    refine w_icmp_eq (pc' := 19) (tgt := 42) dX0_place_16 rfl rfl (fun e1 => ?_) (fun e1 => ?_)
    · exact go (Or.inl e1)
    · refine w_iload (pc' := 21) dX0_place_19 rfl rfl ?_
      refine w_iconst (pc' := 22) dX0_place_21 rfl (by decide) ?_
      -- at 22: .if_icmp .eq 20
      refine w_icmp_eq (pc' := 25) (tgt := 42) dX0_place_22 rfl rfl (fun e2 => ?_) (fun e2 => ?_)
      · exact go (Or.inr (Or.inl e2))
      · refine w_aload_n (pc' := 26) dX0_place_25 rfl rfl ?_
        refine w_iload (pc' := 28) dX0_place_26 rfl rfl ?_
        -- at 28: .invokevirtual 102
        refine w_callV1 (pc' := 31) (mc := 0) (ms := 0) dX0_place_28 rfl tX0_isKind q321 rfl rfl qs3 q319 hof rfl (Nat.le_of_ble_eq_true rfl) (Nat.le_of_ble_eq_true rfl) ?_
        refine c_X0_isKind hw (fun k0 k1 => w_p1 ?_) (fun g => w_p1 ?_)
        · refine w_if_eq (pc' := 34) (tgt := 60) dX0_place_31 rfl rfl (fun h_ => False.elim (by first | omega | (simp (decide := true) only [au_1, nu_2, au_lt, nu_lt, aw_e, nw_e, au_s, au_n, nu_s, nu_n, au_au, nu_nu, au_nu] at h_; omega))) (fun h_ => ?_)
          refine w_iload (pc' := 36) dX0_place_34 rfl rfl ?_
          -- at 36: .invokestatic 106
          refine w_callS1 (pc' := 39) (mc := 0) (ms := 0) dX0_place_36 rfl tX0_isMove q324 q323 rfl (Nat.le_of_ble_eq_true rfl) (Nat.le_of_ble_eq_true rfl) ?_
          refine c_X0_isMove (fun m0 m1 => w_p1 ?_) (fun g => w_p1 ?_)
          · refine w_if_eq (pc' := 42) (tgt := 60) dX0_place_39 rfl rfl (fun h_ => False.elim (by first | omega | (simp (decide := true) only [au_1, nu_2, au_lt, nu_lt, aw_e, nw_e, au_s, au_n, nu_s, nu_n, au_au, nu_nu, au_nu] at h_; omega))) (fun h_ => ?_)
            exact go (Or.inr (Or.inr ⟨⟨k0, k1⟩, m0, m1⟩))
          · refine w_if_eq (pc' := 42) (tgt := 60) dX0_place_39 rfl rfl (fun h_ => ?_) (fun h_ => False.elim (by first | omega | (simp (decide := true) only [au_1, nu_2, au_lt, nu_lt, aw_e, nw_e, au_s, au_n, nu_s, nu_n, au_au, nu_nu, au_nu] at h_; omega)))
            exact bad _ (fun q => by have := q.2; omega)
        · refine w_if_eq (pc' := 34) (tgt := 60) dX0_place_31 rfl rfl (fun h_ => ?_) (fun h_ => False.elim (by first | omega | (simp (decide := true) only [au_1, nu_2, au_lt, nu_lt, aw_e, nw_e, au_s, au_n, nu_s, nu_n, au_au, nu_nu, au_nu] at h_; omega)))
          exact bad _ (fun q => by have := q.2; omega)
  · refine w_ast6 (pc' := 7) dX0_place_5 rfl rfl ?_
    refine w_aload (pc' := 9) dX0_place_7 rfl rfl ?_
    -- at 9: .ifnull 51
    refine w_ifnull (pc' := 12) (tgt := 60) dX0_place_9 rfl rfl (fun h_ => ?_) (fun h_ => False.elim (h_ rfl))
    exact bad _ (fun q => g q.1.1)
end
