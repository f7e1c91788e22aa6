set_option maxRecDepth 10000
/-- a pattern has grown -/
theorem Rx_grow {σ τ : MS} {pl cl : Int → Int} {N N' M b r : Int} {rg : Option Rl} {H W : Nat} {G G' : GH} (hw : Rx σ (pl, cl, N, b, rg) G) (hQ : qok σ) (hr : 0 ≤ r ∧ r < σ.1 29) (hm0 : 0 ≤ σ.1 9) (hp0 : 0 ≤ σ.1 12) (hf0 : 0 ≤ σ.1 40) (hk0 : 0 ≤ σ.1 5) (hM : N ≤ M ∧ M < N') (eH : (H : Int) = σ.2 26 r) (eW : (W : Int) = σ.2 27 r)
    (hn : ∀ k, k ≠ 9 → k ≠ 12 → k ≠ 18 → k ≠ 19 → τ.1 k = σ.1 k) (ha : ∀ k, k < 6 ∨ 11 < k ∧ k < 30 ∨ 32 < k → τ.2 k = σ.2 k) (e12 : τ.1 12 = σ.1 12 + 1) (hm : σ.1 9 ≤ τ.1 9) (old : ∀ p, 0 ≤ p → p < σ.1 12 → τ.2 11 p = σ.2 11 p ∧ ∀ i, 0 ≤ i → i < σ.2 11 p → rw_ τ p i = rw_ σ p i)
    (ch : ∀ q : Rl, q ≠ oR → q ≠ pO (σ.1 12) → ¬ ((14 ≤ q.1 ∧ q.1 < 18) ∧ (σ.1 9 ≤ q.2.1 ∧ q.2.1 < τ.1 9 ∨ -N' ≤ q.2.1 ∧ q.2.1 < -N)) → ¬ ((q.1 = 30 ∨ q.1 = 31) ∧ (N ≤ q.2.1 ∧ q.2.1 < N' ∨ q.2.1 = -2)) → ¬ (q.1 = 21 ∧ q.2.1 = r) → ¬ ((33 ≤ q.1 ∧ q.1 < 38) ∧ -(40 * r + 40) ≤ q.2.1 ∧ q.2.1 ≤ -1 - 40 * r) → G' q = G q)
    (hO : off G' (σ.1 16) (τ.1 9) (σ.1 41) rg) (h3 : Rrow τ G') (hu : rul G' r H W (uB σ r)) (l2 : lst G' (-2) (σ.1 12 + 1) (fun p => some (pO p))) (hP : G' (pO (σ.1 12)) = some (xob 3 [xR (lO M)])) (lN : lst G' M (τ.2 11 (σ.1 12)) (fun i => some (rO (rw_ τ (σ.1 12) i)))) : Rx τ (iset pl (σ.1 12) M, cl, N', b, rg) G' := by
  obtain ⟨hx1, hx2, hx3, hx4, hx5, hx6, hx7, hx8, hx9, hx10, hx11⟩ := Rx_un hw
  obtain ⟨i1, i2, i3, i4, i5, i6, i7⟩ := hx11
  have ch2 : ∀ q : Rl, q.1 ≠ 2 → q.1 ≠ 18 → ¬ ((14 ≤ q.1 ∧ q.1 < 18) ∧ (σ.1 9 ≤ q.2.1 ∧ q.2.1 < τ.1 9 ∨ -N' ≤ q.2.1 ∧ q.2.1 < -N)) → ¬ ((q.1 = 30 ∨ q.1 = 31) ∧ (N ≤ q.2.1 ∧ q.2.1 < N' ∨ q.2.1 = -2)) → ¬ (q.1 = 21 ∧ q.2.1 = r) → ¬ ((33 ≤ q.1 ∧ q.1 < 38) ∧ -(40 * r + 40) ≤ q.2.1 ∧ q.2.1 ≤ -1 - 40 * r) → G' q = G q := fun q q1 q2 => ch q (fun z => q1 (by rw [z])) (fun z => q2 (by rw [z]))
  have n16 := hn 16 (by decide) (by decide) (by decide) (by decide)
  have n17 := hn 17 (by decide) (by decide) (by decide) (by decide)
  have n41 := hn 41 (by decide) (by decide) (by decide) (by decide)
  have n5 := hn 5 (by decide) (by decide) (by decide) (by decide)
  have n29 := hn 29 (by decide) (by decide) (by decide) (by decide)
  have n40 := hn 40 (by decide) (by decide) (by decide) (by decide)
  have n24 := hn 24 (by decide) (by decide) (by decide) (by decide)
  have n25 := hn 25 (by decide) (by decide) (by decide) (by decide)
  have g1 : off G' (τ.1 16) (τ.1 9) (τ.1 41) rg := by
    rw [n16, n41]
    exact hO
  have g4 : Rpat τ G' (iset pl (σ.1 12) M) := by
    refine ⟨by rw [e12]; exact l2, fun p p0 p1 => ?_⟩
    rw [e12] at p1
    unfold iset
    by_cases e : p = σ.1 12
    · rw [if_pos e, e]
      exact ⟨hP, lN⟩
    · rw [if_neg e]
      obtain ⟨a1, a2⟩ := hx4.2 p p0 (by omega)
      obtain ⟨o1, o2⟩ := old p p0 (by omega)
      have hb := i3 p p0 (by omega)
      refine ⟨(ch _ (rl_ne (by omega)) (rl_ne (by omega)) (by simp only []; omega) (by simp only []; omega) (by simp only []; omega) (by simp only []; omega)).trans a1, ?_⟩
      rw [o1]
      refine lst_c (fun i i0 i1 => ?_) (lst_of_fr (fun q q1 q2 => ch2 q (by omega) (by omega) (by omega) (by omega) (by omega) (by omega)) a2)
      rw [o2 i i0 i1]
  have g5 : Rchg τ G' cl := Rchg_c n16 n17 (ha 13 (by decide)) (ha 14 (by decide)) (ha 15 (by decide)) (Rchg_fr (ch2 _ (by simp only []; omega) (by simp only []; omega) (by simp only []; omega) (by simp only []; omega) (by simp only []; omega) (by simp only []; omega)) (fun _ _ _ => ch2 _ (by simp only []; omega) (by simp only []; omega) (by simp only []; omega) (by simp only []; omega) (by simp only []; omega) (by simp only []; omega)) (fun t t0 t1 q hq e => ch2 q (by omega) (by omega) (by omega) (by have := i4 t t0 t1; omega) (by omega) (by omega)) hx5)
  have g6 : Rreg τ G' rg b := by
    refine Rreg_c n24 n25 (ha 20 (by decide)) (ha 22 (by decide)) ?_
    rcases hx6 with h | ⟨h1, h2, H', W', fk, fm, fs, h3, h4, h5, h6⟩
    · exact Or.inl h
    · exact Or.inr ⟨h1, h2, H', W', fk, fm, fs, h3, h4, blo_fr (fun q q1 q2 => ch2 q (by omega) (by omega) (by omega) (by omega) (by omega) (by omega)) h5, h6⟩
  have g7 : Rrul τ G' := by
    refine Rrul_c n29 (ha 26 (by decide)) (ha 27 (by decide)) (ha 28 (by decide)) ⟨?_, fun r' q0 q1 => ?_⟩
    · exact lst_of_fr (fun q q1 q2 => ch2 q (by omega) (by omega) (by omega) (by omega) (by omega) (by omega)) hx7.1
    · by_cases e : r' = r
      · rw [e]
        exact ⟨H, W, eH, eW, hu⟩
      · obtain ⟨H', W', e1, e2, hr'⟩ := hx7.2 r' q0 q1
        refine ⟨H', W', e1, e2, rul_fr (ch2 _ (by simp only []; omega) (by simp only []; omega) (by simp only []; omega) (by simp only []; omega) (by simp only []; omega) (by simp only []; omega)) (ch2 _ (by simp only []; omega) (by simp only []; omega) (by simp only []; omega) (by simp only []; omega) (by simp only []; omega) (by simp only []; omega)) (fun k k0 k1 q z1 z2 => ch2 q (by omega) (by omega) (by omega) (by omega) (by omega) (by have z3 : q.2.1 = -1 - (40 * r' + k) := z2; omega)) hr'⟩
  have g10 : fre τ N' G' := fre_ch (σ := σ) (k := σ.1 5) (m := τ.1 9) (p := σ.1 12 + 1) (r := σ.1 29) (f := σ.1 40) n5 rfl e12 n29 n40 (Int.le_refl _) hm (by omega) (Int.le_refl _) (Int.le_refl _) (by omega) (fun q hq => ch q (fun z => by rw [z] at hq; unfold frq at hq; simp only [] at hq; omega) (fun z => by rw [z] at hq; unfold frq at hq; simp only [] at hq; omega) (by unfold frq at hq; omega) (by unfold frq at hq; omega) (by unfold frq at hq; omega) (by unfold frq at hq; omega)) hx10
  have g11 : ids τ (iset pl (σ.1 12) M) cl N' b := by
    unfold ids iset
    rw [e12, n16, n24]
    refine ⟨by omega, by omega, fun p p0 p1 => ?_, fun t t0 t1 => ?_, fun p q p0 p1 q0 q1 e => ?_, i6, fun p t p0 p1 t0 t1 => ?_⟩
    · split
      · omega
      · have := i3 p p0 (by omega)
        omega
    · have := i4 t t0 t1
      omega
    · split at e
      · split at e
        · omega
        · have := i3 q q0 (by omega)
          omega
      · split at e
        · have := i3 p p0 (by omega)
          omega
        · exact i5 p q p0 (by omega) q0 (by omega) e
    · split
      · have := i4 t t0 t1
        omega
      · exact i7 p t p0 (by omega) t0 t1
  have p2 : Rkin τ G' := Rkin_c n5 (ha 0 (by decide)) (ha 1 (by decide)) (ha 2 (by decide)) (ha 3 (by decide)) (ha 4 (by decide)) (Rkin_fr2 (fun q hq => ch2 q (by omega) (by omega) (by omega) (by omega) (by omega) (by omega)) hx2)
  have p8 : Rflo τ G' := Rflo_c n40 (ha 35 (by decide)) (ha 36 (by decide)) (ha 37 (by decide)) (ha 38 (by decide)) (ha 39 (by decide)) (Rflo_fr (fun q hq => ch2 q (by omega) (by omega) (by omega) (by omega) (by omega) (by omega)) hx8)
  have p9 : Rscr G' := Rscr_fr (fun q hq => ch2 q (by omega) (by omega) (by omega) (by omega) (by omega) (by omega)) hx9
  exact Rx_mk g1 p2 h3 g4 g5 g6 g7 p8 p9 g10 g11
/-- rows of a new pattern -/
theorem Rrow_grow {σ : MS} {P : GP} {m : Int} {f g h : Int → Int} {x y : Int} {G G' : GH} (hR : rok σ) (hr : Rrow σ G) (hm0 : 0 ≤ m) (hP : gpok σ m P) (fr : ∀ q : Rl, (14 ≤ q.1 ∧ q.1 < 18) → 0 ≤ q.2.1 → q.2.1 < σ.1 9 → G' q = G q) (new : ∀ i, 0 ≤ i → i < m → row G' (σ.1 9 + i) (P.1 i) (P.2.1 i) (P.2.2 i)) : Rrow (sGrow σ P m f g h x y) G' := by
  have hm1 := hR.1
  have e6 : ∀ q, (sGrow σ P m f g h x y).2 6 q = rfill (σ.2 6) (σ.1 9) m (fun q => P.1 (q - σ.1 9)) q := fun _ => rfl
  have e7 : ∀ q, (sGrow σ P m f g h x y).2 7 q = rfill (σ.2 7) (σ.1 9) m (fun q => P.2.1 (q - σ.1 9)) q := fun _ => rfl
  have e8 : ∀ q, (sGrow σ P m f g h x y).2 8 q = gcl (σ.2 8) (σ.1 9) P m q := fun _ => rfl
  refine Rrow_up hr (fun q q0 q1 => ?_) fr (fun q q0 q1 => ?_)
  · have hq := (hR.2 q q0 q1).1
    rw [e6, e7]
    unfold rfill
    rw [if_neg (by omega), if_neg (by omega)]
    refine ⟨rfl, rfl, fun k k0 k1 => ?_⟩
    rw [e8]
    unfold gcl
    rw [if_neg (by omega)]
  · have q1 : q < σ.1 9 + m := q1
    have hh := new (q - σ.1 9) (by omega) (by omega)
    have hg := hP (q - σ.1 9) (by omega) (by omega)
    rw [show σ.1 9 + (q - σ.1 9) = q by omega] at hh
    rw [e6, e7]
    unfold rfill
    rw [if_pos (by omega), if_pos (by omega)]
    refine row_c (fun k k0 k1 => ?_) hh
    have k1 : k < P.1 (q - σ.1 9) := k1
    rw [e8]
    unfold gcl
    have d1 : (60 * q + k) / 60 = q := by omega
    have d2 : (60 * q + k) % 60 = k := by omega
    rw [d1, d2, if_pos ⟨by omega, k1⟩]
section
variable {d : Nat} {K : Option XV → GH → Prop} {G : GH} {bc bs : Nat} {σ : MS} {w : RW}
/-- the rows are copied -/
theorem c_X0_grow_c {p r n many a N u ma li : Int} {rg : Option Rl} {c mc ms : Nat} {id : Int → Int} {L O : Int → Int} {C : Int → Int → Int} {ρ : Int → Int} {M : Int} (hof : off G u ma li rg) (hPo : G (pO p) = some (xob 3 [xR (lO a)])) (hpr : prw G a M ρ L O C) (haN : N ≠ a) (hls : lsc G N 0 c (fun k => some (rO (id k)))) (hM : 0 ≤ M ∧ M ≤ 60) (hc : M ≤ c) (hfr : ∀ (t : Nat) (i : Int), 14 ≤ t → t < 18 → 0 ≤ i → i < M → G (t, id i, 0) = none) (inj : ∀ i j, 0 ≤ i → i < M → 0 ≤ j → j < M → id i = id j → i = j) (dis : ∀ i j, 0 ≤ i → i < M → 0 ≤ j → j < M → id i ≠ ρ j)
    (kk : ∀ (G' : GH), (∀ z : Rl, ¬ ((14 ≤ z.1 ∧ z.1 < 18) ∧ ∃ i, 0 ≤ i ∧ i < M ∧ z.2.1 = id i) → ¬ ((z.1 = 30 ∨ z.1 = 31) ∧ z.2.1 = N) → G' z = G z) → lst G' N M (fun k => some (rO (id k))) → (∀ i, 0 ≤ i → i < M → row G' (id i) (L i) (O i) (C i)) → tvW mX0_grow (d + 8) K 164 [some (xR oR), some (xI p), some (xI r), some (xI n), some (xR (pO p)), some (xR (uO r)), some (xI many), (some (xR (lO N))), (some (xI M))] [] G' mc ms) : tvW mX0_grow (d + 8) K 116 [some (xR oR), some (xI p), some (xI r), some (xI n), some (xR (pO p)), some (xR (uO r)), some (xI many), (some (xR (lO N))), none] [] G (mc + 240) (ms + 11040) := by
  have hst : ∃ S : Int → GH → Prop, S = fun i G1 => (∀ z : Rl, ¬ ((14 ≤ z.1 ∧ z.1 < 18) ∧ ∃ i, 0 ≤ i ∧ i < M ∧ z.2.1 = id i) → ¬ ((z.1 = 30 ∨ z.1 = 31) ∧ z.2.1 = N) → G1 z = G z) ∧ lsc G1 N i c (fun k => some (rO (id k))) ∧ (∀ k, 0 ≤ k → k < i → row G1 (id k) (L k) (O k) (C k)) ∧ ∀ (t : Nat) (k : Int), 14 ≤ t → t < 18 → i ≤ k → k < M → G1 (t, id k, 0) = none := ⟨_, rfl⟩
  obtain ⟨S, hS⟩ := hst
  have inv : ∀ i G1, S i G1 → G1 (pO p) = some (xob 3 [xR (lO a)]) ∧ prw G1 a M ρ L O C := by
    intro i G1 s
    rw [hS] at s
    have f := s.1
    refine ⟨(f _ (fun z => by have := z.1; simp only [] at this; omega) (by simp only []; omega)).trans hPo, lst_of_fr (fun q q1 q2 => f q (fun z => by have := z.1; omega) (by omega)) hpr.1, fun i i0 i1 => ⟨row_e (fun t t0 t1 => f _ (fun z => by obtain ⟨-, k, k0, k1, e⟩ := z; exact dis k i k0 k1 i0 i1 e.symm) (by simp only []; omega)) (hpr.2 i i0 i1).1, (hpr.2 i i0 i1).2⟩⟩
  refine w_iconst (pc' := 117) dX0_grow_116 rfl (by decide) ?_
  refine w_ist8 (pc' := 119) dX0_grow_117 rfl rfl ?_
  -- at 119: .iload 8
  refine up (T := fun i => 0 ≤ i → ∀ (G1 : GH) (mc1 ms1 : Nat), S i G1 → mc + 4 * (M - i) ≤ mc1 → ms + 184 * (M - i) ≤ ms1 → tvW mX0_grow (d + 8) K 119 [some (xR oR), some (xI p), some (xI r), some (xI n), some (xR (pO p)), some (xR (uO r)), some (xI many), (some (xR (lO N))), (some (xI i))] [] G1 mc1 ms1) M hM.1 ?_ ?_ (Int.le_refl _) G (mc + 240) (ms + 11040) (by rw [hS]; exact ⟨fun _ _ _ => rfl, hls, fun k k0 k1 => by omega, fun t k t0 t1 k0 k1 => hfr t k t0 t1 k0 k1⟩) (by omega) (by omega)
  · intro _ G1 mc1 ms1 s hmc hms
    obtain ⟨q1, q2⟩ := inv _ _ s
    obtain ⟨lf, hlO⟩ := lst_o q2.1
    rw [hS] at s
    obtain ⟨s1, s2, s3, s4⟩ := s
    refine w_iload (pc' := 121) dX0_grow_119 rfl rfl ?_
    refine w_aload (pc' := 123) dX0_grow_121 rfl rfl ?_
    refine w_get 0 (pc' := 126) dX0_grow_123 rfl fX0_140_3 q1 rfl ?_
    -- at 126: .invokevirtual 54
    refine w_callV0 (pc' := 129) (mc := 0) (ms := 0) dX0_grow_126 rfl tJ2_size q207 rfl rfl q208 q206 hlO rfl (Nat.le_of_ble_eq_true rfl) (Nat.le_of_ble_eq_true rfl) ?_
    refine c_J2_size q2.1 ?_
    refine w_p1 ?_
    refine w_icmp_ge (pc' := 132) (tgt := 164) dX0_grow_129 rfl rfl (fun h_ => ?_) (fun h_ => False.elim (by first | omega | (simp (decide := true) only [au_1, nu_2, au_lt, nu_lt, aw_e, nw_e, au_s, au_n, nu_s, nu_n, au_au, nu_nu, au_nu] at h_; omega)))
    refine w_less (bc' := mc) (bs' := ms) (by omega) (by omega) ?_
    exact kk G1 s1 (lsc_l s2) s3
  · intro i i0 i1 ih _ G1 mc1 ms1 s hmc hms
    obtain ⟨q1, q2⟩ := inv _ _ s
    obtain ⟨lf, hlO⟩ := lst_o q2.1
    obtain ⟨hrow, hL, hO⟩ := q2.2 i i0 i1
    rw [hS] at s
    obtain ⟨s1, s2, s3, s4⟩ := s
    have h14 := s4 14 i (by omega) (by omega) (Int.le_refl _) i1
    have h15 := s4 15 i (by omega) (by omega) (Int.le_refl _) i1
    have h16 := s4 16 i (by omega) (by omega) (Int.le_refl _) i1
    have h17 := s4 17 i (by omega) (by omega) (Int.le_refl _) i1
    have hne := dis i i i0 i1 i0 i1
    obtain ⟨mc2, rfl⟩ : ∃ m', mc1 = m' + 3 + 1 := ⟨mc1 - 4, by omega⟩
    obtain ⟨ms2, rfl⟩ : ∃ m', ms1 = m' + 180 + 4 := ⟨ms1 - 184, by omega⟩
    refine w_iload (pc' := 121) dX0_grow_119 rfl rfl ?_
    refine w_aload (pc' := 123) dX0_grow_121 rfl rfl ?_
    refine w_get 0 (pc' := 126) dX0_grow_123 rfl fX0_140_3 q1 rfl ?_
    -- at 126: .invokevirtual 54
    refine w_callV0 (pc' := 129) (mc := 0) (ms := 0) dX0_grow_126 rfl tJ2_size q207 rfl rfl q208 q206 hlO rfl (Nat.le_of_ble_eq_true rfl) (Nat.le_of_ble_eq_true rfl) ?_
    refine c_J2_size q2.1 ?_
    refine w_p1 ?_
    refine w_icmp_ge (pc' := 132) (tgt := 164) dX0_grow_129 rfl rfl (fun h_ => False.elim (by first | omega | (simp (decide := true) only [au_1, nu_2, au_lt, nu_lt, aw_e, nw_e, au_s, au_n, nu_s, nu_n, au_au, nu_nu, au_nu] at h_; omega))) (fun h_ => ?_)
    refine w_aload (pc' := 134) dX0_grow_132 rfl rfl ?_
    refine w_new (N := 4) (rO (id i)) (pc' := 137) dX0_grow_134 rfl nX0_138 (by assumption) (by first | assumption | simp) ?_
    -- at 137: .dup
    refine w_upd (fun G2 a2 f2 => ?_)
    have h15 := (f2 _ (rl_ne (by omega))).trans h15
    have h16 := (f2 _ (rl_ne (by omega))).trans h16
    have h17 := (f2 _ (rl_ne (by omega))).trans h17
    have q1 := (f2 _ (rl_ne (by omega))).trans q1
    have hlO := (f2 _ (rl_ne (by omega))).trans hlO
    have l2 : lst G2 a M (fun i => some (rO (ρ i))) := lst_of_fr (fun q y1 y2 => f2 q (fun z => by rw [z] at y1; simp only [] at y1; omega)) q2.1
    have r2 : row G2 (ρ i) (L i) (O i) (C i) := row_e (fun t t0 t1 => f2 _ (rl_ne (by omega))) hrow
    refine w_dup (pc' := 138) dX0_grow_137 rfl rfl ?_
    refine w_aload (pc' := 140) dX0_grow_138 rfl rfl ?_
    refine w_get 0 (pc' := 143) dX0_grow_140 rfl fX0_140_3 q1 rfl ?_
    refine w_iload (pc' := 145) dX0_grow_143 rfl rfl ?_
    -- at 145: .invokevirtual 58
    refine w_callV1 (pc' := 148) (mc := 0) (ms := 0) dX0_grow_145 rfl tJ2_get q211 rfl rfl q212 q210 hlO rfl (Nat.le_of_ble_eq_true rfl) (Nat.le_of_ble_eq_true rfl) ?_
    refine c_J2_get l2 ⟨i0, i1⟩ ?_
    refine w_p1 ?_
    refine w_cast (pc' := 151) dX0_grow_148 rfl r2.1 rfl q425 ?_
    -- at 151: .invokespecial 143
    refine w_callI1 (pc' := 154) (mc := 3) (ms := 180) dX0_grow_151 rfl tX6_init_2 rfl rfl q502 (Or.inl q501) rfl (Nat.le_of_ble_eq_true rfl) (Nat.le_of_ble_eq_true rfl) ?_
    refine c_X6_init_2 a2 h15 h16 h17 r2 hL.2 hne (fun G3 f3 r3 => w_p0 ?_)
    have ch3 : ∀ z : Rl, ¬ ((14 ≤ z.1 ∧ z.1 < 18) ∧ z.2.1 = id i) → G3 z = G1 z := fun z hz => (f3 z hz).trans (f2 z (fun y => hz (by rw [y]; exact ⟨by simp only []; omega, rfl⟩)))
    have ls3 : lsc G3 N i c (fun k => some (rO (id k))) := lsc_fr (fun z z1 z2 => ch3 z (by omega)) s2
    obtain ⟨lf3, hlO3⟩ := lst_o (lsc_l ls3)
    refine w_callV1 (pc' := 157) (mc := 0) (ms := 0) dX0_grow_154 rfl tJ2_add q257 rfl rfl q258 q256 hlO3 rfl (Nat.le_of_ble_eq_true rfl) (Nat.le_of_ble_eq_true rfl) ?_
    refine c_J2_addC ls3 (by omega) ⟨_, rfl, Or.inr ⟨_, rfl, q1586⟩⟩ r3.1 (Or.inl (by decide : (14 : Nat) < 30)) (fun G4 f4 l4 => w_p1 ?_)
    have l4 : lsc G4 N (i + 1) c (fun k => some (rO (id k))) := lsc_c (fun k k0 k1 => by unfold rset; split <;> simp [*]) l4
    have ch4 : ∀ z : Rl, ¬ ((14 ≤ z.1 ∧ z.1 < 18) ∧ z.2.1 = id i) → ¬ ((z.1 = 30 ∨ z.1 = 31) ∧ z.2.1 = N) → G4 z = G1 z := fun z z1 z2 => (f4 z z2).trans (ch3 z z1)
    refine w_pop (pc' := 158) dX0_grow_157 rfl rfl ?_
    refine w_inc8 (pc' := 161) dX0_grow_158 rfl rfl ⟨by first | omega | (simp (decide := true) only [au_1, nu_2, au_lt, nu_lt, aw_e, nw_e, au_s, au_n, nu_s, nu_n, au_au, nu_nu, au_nu]; omega), by first | omega | (simp (decide := true) only [au_1, nu_2, au_lt, nu_lt, aw_e, nw_e, au_s, au_n, nu_s, nu_n, au_au, nu_nu, au_nu]; omega)⟩ ?_
    refine w_goto (tgt := 119) dX0_grow_161 rfl ?_
    -- at 119: .iload 8
    refine ih (by omega) G4 mc2 ms2 ?_ (by omega) (by omega)
    rw [hS]
    refine ⟨fun z z1 z2 => (ch4 z (fun y => z1 ⟨y.1, i, i0, i1, y.2⟩) z2).trans (s1 z z1 z2), l4, fun k k0 k1 => ?_, fun t k t0 t1 k0 k1 => ?_⟩
    · by_cases e : k = i
      · rw [e]
        exact row_e (fun t t0 t1 => f4 _ (by simp only []; omega)) r3
      · have hki : id k ≠ id i := fun y => e (inj k i k0 (by omega) i0 i1 y)
        exact row_e (fun t t0 t1 => ch4 _ (by simp only []; omega) (by simp only []; omega)) (s3 k k0 (by omega))
    · have hki : id k ≠ id i := fun y => by have := inj k i (by omega) k1 i0 i1 y; omega
      exact (ch4 _ (by simp only []; omega) (by simp only []; omega)).trans (s4 t k t0 t1 (by omega) k1)
end
