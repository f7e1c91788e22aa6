set_option maxRecDepth 10000
theorem flR_fr {σ : MS} {f : Int} {H W : Nat} {b : Int → Int} {G G' : GH} (hf : ∀ q : Rl, ¬ (q.1 = 27 ∧ 8 * f + 2 ≤ q.2.1 ∧ q.2.1 < 8 * f + 8) → G' q = G q) (h : flR σ f H W b G) : flR σ f H W b G' := by
  obtain ⟨⟨u, ma, li, rg, hof⟩, hkin, ⟨z0, z1, z2, z3, z4, z5, z6, z7, z8, z9, hO⟩, h0, h1⟩ := h
  exact ⟨⟨u, ma, li, rg, (hf _ (by simp only []; omega)).trans hof⟩, Rkin_fr2 (fun q hq => hf q (by omega)) hkin, ⟨z0, z1, z2, z3, z4, z5, z6, z7, z8, z9, (hf _ (by simp only []; omega)).trans hO⟩, fbd_fr (hf _ (by simp only []; omega)) (fun i => hf _ (by simp only []; omega)) h0, fbd_fr (hf _ (by simp only []; omega)) (fun i => hf _ (by simp only []; omega)) h1⟩
section
variable {d : Nat} {K : Option XV → GH → Prop} {G : GH} {bc bs : Nat} {σ : MS} {f : Int} {H W : Nat} {b l g : Int → Int}
/-- which have one way alone -/
theorem c_X10_round_1 (hR : flR σ f H W b G) (hon : ∃ on, fbd G f 4 11 3 H W on) (hg : G (25, f, 1) = some (xar 0 40 g)) (hgl : ∀ k, 0 ≤ k → k < σ.1 5 → g k = l k) (hK : kok σ) (hF : fo1 σ) (hf : 0 ≤ f ∧ f < σ.1 40) (eH : (H : Int) = σ.2 35 f) (eW : (W : Int) = σ.2 36 f) (hb : bok σ f b) (hl : lok σ l)
    (kk : ∀ (G1 : GH) (v1 v2 : Option XV), (∀ q : Rl, ¬ (q.1 = 27 ∧ q.2.1 = 8 * f + 4) → G1 q = G q) → fbd G1 f 4 11 3 H W (fun i j => b1 (0 ≤ rd1 σ f b l (8 * i + j))) → tvW mX10_round (d + 6) K 78 [some (xR (fO f)), v1, v2, none, none] [] G1 bc bs) : tvW mX10_round (d + 6) K 0 [some (xR (fO f)), none, none, none, none] [] G bc bs := by
  have hk1 := hK.1
  have hd := hF.2 f hf.1 hf.2
  obtain ⟨on, hon⟩ := hon
  have hon6 := hon.1
  obtain ⟨-, -, ⟨z0, z1, z2, z3, z4, z5, z6, z7, z8, z9, hO⟩, hbd, hly⟩ := id hR
  have hbd6 := hbd.1
  have hly6 := hly.1
  have hst : ∃ S : Int → Int → GH → Prop, S = fun i j G1 => (∀ q : Rl, ¬ (q.1 = 27 ∧ q.2.1 = 8 * f + 4) → G1 q = G q) ∧ ∀ y : Int, 0 ≤ y → y < H → ∃ g, G1 (27, 8 * f + 4, y) = some (xar 3 W g) ∧ ∀ x : Int, 0 ≤ x → x < W → (y < i ∨ y = i ∧ x < j) → g x = b1 (0 ≤ rd1 σ f b l (8 * y + x)) := ⟨_, rfl⟩
  obtain ⟨S, hS⟩ := hst
  refine w_iconst (pc' := 1) dX10_round_0 rfl (by decide) ?_
  refine w_ist1 (pc' := 2) dX10_round_1 rfl rfl ?_
  -- at 2: .iload_n 1
  refine up (T := fun i => 0 ≤ i → ∀ (v2 : Option XV) (G1 : GH), S i 0 G1 → tvW mX10_round (d + 6) K 2 [some (xR (fO f)), (some (xI i)), v2, none, none] [] G1 bc bs) (a := 0) (H : Int) (by omega) ?_ ?_ (Int.le_refl _) none G ?_
  · intro _ v2 G1 s
    rw [hS] at s
    have hO1 := (s.1 (fO f) (by simp only []; omega)).trans hO
    refine w_iload_n (pc' := 3) dX10_round_2 rfl rfl ?_
    refine w_aload_n (pc' := 4) dX10_round_3 rfl rfl ?_
    refine w_get 0 (pc' := 7) dX10_round_4 rfl fX10_22_8 hO1 rfl ?_
    -- at 7: .if_icmp .ge 71
    refine w_icmp_ge (pc' := 10) (tgt := 78) dX10_round_7 rfl rfl (fun h_ => ?_) (fun h_ => False.elim (by first | omega | (simp (decide := true) only [au_1, nu_2, au_lt, nu_lt, aw_e, nw_e, au_s, au_n, nu_s, nu_n, au_au, nu_nu, au_nu] at h_; omega)))
    refine kk G1 _ _ s.1 ⟨(s.1 _ (by simp only []; omega)).trans hon6, fun y y0 y1 => ?_⟩
    obtain ⟨g, g1, g2⟩ := s.2 y y0 y1
    exact ⟨g, g1, fun x x0 x1 => g2 x x0 x1 (Or.inl y1)⟩
  · intro i i0 i1 ih _ v2 G1 s
    have s0 := s
    rw [hS] at s0
    have hO1 := (s0.1 (fO f) (by simp only []; omega)).trans hO
    refine w_iload_n (pc' := 3) dX10_round_2 rfl rfl ?_
    refine w_aload_n (pc' := 4) dX10_round_3 rfl rfl ?_
    refine w_get 0 (pc' := 7) dX10_round_4 rfl fX10_22_8 hO1 rfl ?_
    -- at 7: .if_icmp .ge 71
    refine w_icmp_ge (pc' := 10) (tgt := 78) dX10_round_7 rfl rfl (fun h_ => False.elim (by first | omega | (simp (decide := true) only [au_1, nu_2, au_lt, nu_lt, aw_e, nw_e, au_s, au_n, nu_s, nu_n, au_au, nu_nu, au_nu] at h_; omega))) (fun h_ => ?_)
    refine w_iconst (pc' := 11) dX10_round_10 rfl (by decide) ?_
    refine w_ist2 (pc' := 12) dX10_round_11 rfl rfl ?_
    -- at 12: .iload_n 2
    refine up (T := fun j => 0 ≤ j → ∀ (G1 : GH), S i j G1 → tvW mX10_round (d + 6) K 12 [some (xR (fO f)), (some (xI i)), (some (xI j)), none, none] [] G1 bc bs) (a := 0) (W : Int) (by omega) ?_ ?_ (Int.le_refl _) G1 s
    · intro _ G1 s
      have s0 := s
      rw [hS] at s0
      have hO1 := (s0.1 (fO f) (by simp only []; omega)).trans hO
      refine w_iload_n (pc' := 13) dX10_round_12 rfl rfl ?_
      refine w_aload_n (pc' := 14) dX10_round_13 rfl rfl ?_
      refine w_get 1 (pc' := 17) dX10_round_14 rfl fX10_26_8 hO1 rfl ?_
      -- at 17: .if_icmp .ge 55
      refine w_icmp_ge (pc' := 20) (tgt := 72) dX10_round_17 rfl rfl (fun h_ => ?_) (fun h_ => False.elim (by first | omega | (simp (decide := true) only [au_1, nu_2, au_lt, nu_lt, aw_e, nw_e, au_s, au_n, nu_s, nu_n, au_au, nu_nu, au_nu] at h_; omega)))
      refine w_inc1 (pc' := 75) dX10_round_72 rfl rfl ⟨by first | omega | (simp (decide := true) only [au_1, nu_2, au_lt, nu_lt, aw_e, nw_e, au_s, au_n, nu_s, nu_n, au_au, nu_nu, au_nu]; omega), by first | omega | (simp (decide := true) only [au_1, nu_2, au_lt, nu_lt, aw_e, nw_e, au_s, au_n, nu_s, nu_n, au_au, nu_nu, au_nu]; omega)⟩ ?_
      refine w_goto (tgt := 2) dX10_round_75 rfl ?_
      -- at 2: .iload_n 1
      refine ih (by omega) _ G1 ?_
      rw [hS]
      refine ⟨s0.1, fun y y0 y1 => ?_⟩
      obtain ⟨g, g1, g2⟩ := s0.2 y y0 y1
      exact ⟨g, g1, fun x x0 x1 z => g2 x x0 x1 (by omega)⟩
    · intro j j0 j1 ihj _ G1 s
      have s0 := s
      rw [hS] at s0
      obtain ⟨s1, s2⟩ := s0
      have hO1 := (s1 (fO f) (by simp only []; omega)).trans hO
      have p06 := (s1 (26, f, 0) (by simp only []; omega)).trans hbd6
      have p16 := (s1 (26, f, 1) (by simp only []; omega)).trans hly6
      have p46 := (s1 (26, f, 4) (by simp only []; omega)).trans hon6
      obtain ⟨gi, gi1, gi2⟩ := hbd.2 i i0 i1
      have gi1 := (s1 (27, 8 * f + 0, i) (by simp only []; omega)).trans gi1
      have x1 := gi2 j j0 j1
      obtain ⟨gl, gl1, gl2⟩ := hly.2 i i0 i1
      have gl1 := (s1 (27, 8 * f + 1, i) (by simp only []; omega)).trans gl1
      have x2 := gl2 j j0 j1
      simp only [] at x2
      obtain ⟨gn, gn1, gn2⟩ := s2 i i0 i1
      obtain ⟨r1, -⟩ := rd1_r (σ := σ) (f := f) (pl := 8 * i + j) (b := b) (l := l) hk1.1
      have fin : ∀ v : Int, v = b1 (0 ≤ rd1 σ f b l (8 * i + j)) → tvW mX10_round (d + 6) K 65 [some (xR (fO f)), (some (xI i)), (some (xI j)), none, none] [xI v, xI j, xR (27, 8 * f + 4, i)] G1 bc bs := by
        intro v ev
        have hv : v = 0 ∨ v = 1 := by rw [ev]; exact b1_01 _
        refine w_zast (pc' := 66) dX10_round_65 rfl gn1 j0 j1 hv ?_
        -- at 66: .iinc 2 1
        refine w_upd (fun G2 a2 f2 => ?_)
        refine w_inc2 (pc' := 69) dX10_round_66 rfl rfl ⟨by first | omega | (simp (decide := true) only [au_1, nu_2, au_lt, nu_lt, aw_e, nw_e, au_s, au_n, nu_s, nu_n, au_au, nu_nu, au_nu]; omega), by first | omega | (simp (decide := true) only [au_1, nu_2, au_lt, nu_lt, aw_e, nw_e, au_s, au_n, nu_s, nu_n, au_au, nu_nu, au_nu]; omega)⟩ ?_
        refine w_goto (tgt := 12) dX10_round_69 rfl ?_
        -- at 12: .iload_n 2
        refine ihj (by omega) G2 ?_
        rw [hS]
        refine ⟨fun q hq => (f2 q (fun z => hq (by rw [z]; exact ⟨rfl, rfl⟩))).trans (s1 q hq), fun y y0 y1 => ?_⟩
        by_cases ey : y = i
        · rw [ey]
          refine ⟨_, a2, fun x x0 x1 z => ?_⟩
          unfold iset
          by_cases ex : x = j
          · rw [if_pos ex, ex, ev]
          · rw [if_neg ex]
            exact gn2 x x0 x1 (by omega)
        · obtain ⟨g, g1, g2⟩ := s2 y y0 y1
          exact ⟨g, (f2 _ (rl_ne (by omega))).trans g1, fun x x0 x1 z => g2 x x0 x1 (by omega)⟩
      have no : ¬ (opB σ f (8 * i + j) ∧ b (8 * i + j) = 0 ∧ nfB σ f b l (8 * i + j) = 1) → tvW mX10_round (d + 6) K 64 [some (xR (fO f)), (some (xI i)), (some (xI j)), none, none] [xI j, xR (27, 8 * f + 4, i)] G1 bc bs := by
        intro q
        refine w_iconst (pc' := 65) dX10_round_64 rfl (by decide) ?_
        -- at 65: .bastore
        exact fin 0 (by rw [b1_f (fun z => q (r1.mp z))])
      refine w_iload_n (pc' := 13) dX10_round_12 rfl rfl ?_
      refine w_aload_n (pc' := 14) dX10_round_13 rfl rfl ?_
      refine w_get 1 (pc' := 17) dX10_round_14 rfl fX10_26_8 hO1 rfl ?_
      -- at 17: .if_icmp .ge 55
      refine w_icmp_ge (pc' := 20) (tgt := 72) dX10_round_17 rfl rfl (fun h_ => False.elim (by first | omega | (simp (decide := true) only [au_1, nu_2, au_lt, nu_lt, aw_e, nw_e, au_s, au_n, nu_s, nu_n, au_au, nu_nu, au_nu] at h_; omega))) (fun h_ => ?_)
      refine w_aload_n (pc' := 21) dX10_round_20 rfl rfl ?_
      refine w_get 8 (pc' := 24) dX10_round_21 rfl fX10_45_8 hO1 rfl ?_
      refine w_iload_n (pc' := 25) dX10_round_24 rfl rfl ?_
      refine w_aaldM (pc' := 26) dX10_round_25 rfl p46 i0 i1 ?_
      refine w_iload_n (pc' := 27) dX10_round_26 rfl rfl ?_
      refine w_aload_n (pc' := 28) dX10_round_27 rfl rfl ?_
      refine w_get 2 (pc' := 31) dX10_round_28 rfl fX10_31_8 hO1 rfl ?_
      refine w_iload_n (pc' := 32) dX10_round_31 rfl rfl ?_
      refine w_aaldM (pc' := 33) dX10_round_32 rfl p06 i0 i1 ?_
      refine w_iload_n (pc' := 34) dX10_round_33 rfl rfl ?_
      refine w_iald (pc' := 35) dX10_round_34 rfl gi1 j0 j1 ?_
      -- at 35: .ifCond .ne 29
      rw [x1]
      by_cases ht : σ.2 37 (64 * f + 8 * i + j) = 0
      · rw [isB_0.mpr ht]
        have hop : opB σ f (8 * i + j) := ⟨⟨by omega, by omega, by omega⟩, by rw [← Int.add_assoc]; exact ht⟩
        rw [lyB_o ⟨i0, by omega⟩ ⟨j0, by omega⟩ ht] at x2
        have hbb := hb (8 * i + j) (by omega) (by omega) (by omega)
        refine w_if_ne (pc' := 38) (tgt := 64) dX10_round_35 rfl rfl (fun h_ => False.elim (by first | omega | (simp (decide := true) only [au_1, nu_2, au_lt, nu_lt, aw_e, nw_e, au_s, au_n, nu_s, nu_n, au_au, nu_nu, au_nu] at h_; omega))) (fun h_ => ?_)
        refine w_aload_n (pc' := 39) dX10_round_38 rfl rfl ?_
        refine w_get 5 (pc' := 42) dX10_round_39 rfl fX10_34_8 hO1 rfl ?_
        refine w_iload_n (pc' := 43) dX10_round_42 rfl rfl ?_
        refine w_aaldM (pc' := 44) dX10_round_43 rfl p16 i0 i1 ?_
        refine w_iload_n (pc' := 45) dX10_round_44 rfl rfl ?_
        refine w_iald (pc' := 46) dX10_round_45 rfl gl1 j0 j1 ?_
        -- at 46: .ifCond .ge 18
        rw [x2]
        refine w_if_ge (pc' := 49) (tgt := 64) dX10_round_46 rfl rfl (fun q => ?_) (fun q => ?_)
        · exact no (fun z => by omega)
        · refine w_aload_n (pc' := 50) dX10_round_49 rfl rfl ?_
          refine w_iload_n (pc' := 51) dX10_round_50 rfl rfl ?_
          refine w_iload_n (pc' := 52) dX10_round_51 rfl rfl ?_
          refine w_iconst (pc' := 53) dX10_round_52 rfl (by decide) ?_
          -- at 53: .invokevirtual 146
          refine w_callV3 (pc' := 56) (mc := 0) (ms := 0) dX10_round_53 rfl tX10_fitting q1006 rfl rfl qs34 q1004 hO1 rfl (Nat.le_of_ble_eq_true rfl) (Nat.le_of_ble_eq_true rfl) ?_
          refine c_X10_fitting (flR_fr (fun q hq => s1 q (by omega)) hR) hK hF hf eH eW hb hl ((s1 _ (by simp only []; omega)).trans hg) hgl (by omega) (by omega) (fun r hr => w_p1 ?_)
          refine w_iconst (pc' := 57) dX10_round_56 rfl (by decide) ?_
          -- at 57: .if_icmp .ne 7
          refine w_icmp_ne (pc' := 60) (tgt := 64) dX10_round_57 rfl rfl (fun q2 => ?_) (fun q2 => ?_)
          · exact no (fun z => by omega)
          · refine w_iconst (pc' := 61) dX10_round_60 rfl (by decide) ?_
            refine w_goto (tgt := 65) dX10_round_61 rfl ?_
            -- at 65: .bastore
            exact fin 1 (by rw [b1_t (r1.mpr ⟨hop, by omega, by omega⟩)])
      · have hz : isB σ f i j ≠ 0 := fun z => ht (isB_0.mp z)
        refine w_if_ne (pc' := 38) (tgt := 64) dX10_round_35 rfl rfl (fun h_ => ?_) (fun h_ => False.elim (by first | omega | (simp (decide := true) only [au_1, nu_2, au_lt, nu_lt, aw_e, nw_e, au_s, au_n, nu_s, nu_n, au_au, nu_nu, au_nu] at h_; omega)))
        exact no (fun z => ht (by have := z.1.2; rw [← Int.add_assoc] at this; exact this))
  · rw [hS]
    refine ⟨fun _ _ => rfl, fun y y0 y1 => ?_⟩
    obtain ⟨g, g1, -⟩ := hon.2 y y0 y1
    exact ⟨g, g1, fun x x0 x1 z => by omega⟩
/-- and which one that is -/
theorem c_X10_round_2 {v1 v2 : Option XV} (hR : flR σ f H W b G) (hon : fbd G f 4 11 3 H W (fun i j => b1 (0 ≤ rd1 σ f b l (8 * i + j)))) (hwa : ∃ wa, fbd G f 3 10 0 H W wa) (hg : G (25, f, 1) = some (xar 0 40 g)) (hgl : ∀ k, 0 ≤ k → k < σ.1 5 → g k = l k) (hK : kok σ) (hF : fo1 σ) (hf : 0 ≤ f ∧ f < σ.1 40) (eH : (H : Int) = σ.2 35 f) (eW : (W : Int) = σ.2 36 f) (hb : bok σ f b) (hl : lok σ l)
    (kk : ∀ (G1 : GH) (v1 v2 : Option XV), (∀ q : Rl, ¬ (q.1 = 27 ∧ q.2.1 = 8 * f + 3) → G1 q = G q) → (∃ wa, fbd G1 f 3 10 0 H W wa ∧ ∀ i j : Int, 0 ≤ i → i < H → 0 ≤ j → j < W → 0 ≤ rd1 σ f b l (8 * i + j) → wa i j = rd1 σ f b l (8 * i + j)) → tvW mX10_round (d + 6) K 135 [some (xR (fO f)), v1, v2, none, none] [] G1 bc bs) : tvW mX10_round (d + 6) K 78 [some (xR (fO f)), v1, v2, none, none] [] G bc bs := by
  have hk1 := hK.1
  have hd := hF.2 f hf.1 hf.2
  obtain ⟨wa, hwa⟩ := hwa
  have hwa6 := hwa.1
  have hon6 := hon.1
  obtain ⟨-, -, ⟨z0, z1, z2, z3, z4, z5, z6, z7, z8, z9, hO⟩, -⟩ := id hR
  have hst : ∃ S : Int → Int → GH → Prop, S = fun i j G1 => (∀ q : Rl, ¬ (q.1 = 27 ∧ q.2.1 = 8 * f + 3) → G1 q = G q) ∧ ∃ wa, fbd G1 f 3 10 0 H W wa ∧ ∀ y x : Int, 0 ≤ y → y < H → 0 ≤ x → x < W → (y < i ∨ y = i ∧ x < j) → 0 ≤ rd1 σ f b l (8 * y + x) → wa y x = rd1 σ f b l (8 * y + x) := ⟨_, rfl⟩
  obtain ⟨S, hS⟩ := hst
  refine w_iconst (pc' := 79) dX10_round_78 rfl (by decide) ?_
  refine w_ist1 (pc' := 80) dX10_round_79 rfl rfl ?_
  -- at 80: .iload_n 1
  refine up (T := fun i => 0 ≤ i → ∀ (v2 : Option XV) (G1 : GH), S i 0 G1 → tvW mX10_round (d + 6) K 80 [some (xR (fO f)), (some (xI i)), v2, none, none] [] G1 bc bs) (a := 0) (H : Int) (by omega) ?_ ?_ (Int.le_refl _) v2 G (by rw [hS]; exact ⟨fun _ _ => rfl, wa, hwa, fun y x _ _ _ _ z => by omega⟩)
  · intro _ v2 G1 s
    rw [hS] at s
    obtain ⟨s1, wa, w1, w2⟩ := s
    have hO1 := (s1 (fO f) (by simp only []; omega)).trans hO
    refine w_iload_n (pc' := 81) dX10_round_80 rfl rfl ?_
    refine w_aload_n (pc' := 82) dX10_round_81 rfl rfl ?_
    refine w_get 0 (pc' := 85) dX10_round_82 rfl fX10_22_8 hO1 rfl ?_
    -- at 85: .if_icmp .ge 50
    refine w_icmp_ge (pc' := 88) (tgt := 135) dX10_round_85 rfl rfl (fun h_ => ?_) (fun h_ => False.elim (by first | omega | (simp (decide := true) only [au_1, nu_2, au_lt, nu_lt, aw_e, nw_e, au_s, au_n, nu_s, nu_n, au_au, nu_nu, au_nu] at h_; omega)))
    exact kk G1 _ _ s1 ⟨wa, w1, fun y x y0 y1 x0 x1 => w2 y x y0 y1 x0 x1 (Or.inl y1)⟩
  · intro i i0 i1 ih _ v2 G1 s
    have s0 := s
    rw [hS] at s0
    have hO1 := (s0.1 (fO f) (by simp only []; omega)).trans hO
    refine w_iload_n (pc' := 81) dX10_round_80 rfl rfl ?_
    refine w_aload_n (pc' := 82) dX10_round_81 rfl rfl ?_
    refine w_get 0 (pc' := 85) dX10_round_82 rfl fX10_22_8 hO1 rfl ?_
    -- at 85: .if_icmp .ge 50
    refine w_icmp_ge (pc' := 88) (tgt := 135) dX10_round_85 rfl rfl (fun h_ => False.elim (by first | omega | (simp (decide := true) only [au_1, nu_2, au_lt, nu_lt, aw_e, nw_e, au_s, au_n, nu_s, nu_n, au_au, nu_nu, au_nu] at h_; omega))) (fun h_ => ?_)
    refine w_iconst (pc' := 89) dX10_round_88 rfl (by decide) ?_
    refine w_ist2 (pc' := 90) dX10_round_89 rfl rfl ?_
    -- at 90: .iload_n 2
    refine up (T := fun j => 0 ≤ j → ∀ (G1 : GH), S i j G1 → tvW mX10_round (d + 6) K 90 [some (xR (fO f)), (some (xI i)), (some (xI j)), none, none] [] G1 bc bs) (a := 0) (W : Int) (by omega) ?_ ?_ (Int.le_refl _) G1 s
    · intro _ G1 s
      have s0 := s
      rw [hS] at s0
      have hO1 := (s0.1 (fO f) (by simp only []; omega)).trans hO
      refine w_iload_n (pc' := 91) dX10_round_90 rfl rfl ?_
      refine w_aload_n (pc' := 92) dX10_round_91 rfl rfl ?_
      refine w_get 1 (pc' := 95) dX10_round_92 rfl fX10_26_8 hO1 rfl ?_
      -- at 95: .if_icmp .ge 34
      refine w_icmp_ge (pc' := 98) (tgt := 129) dX10_round_95 rfl rfl (fun h_ => ?_) (fun h_ => False.elim (by first | omega | (simp (decide := true) only [au_1, nu_2, au_lt, nu_lt, aw_e, nw_e, au_s, au_n, nu_s, nu_n, au_au, nu_nu, au_nu] at h_; omega)))
      refine w_inc1 (pc' := 132) dX10_round_129 rfl rfl ⟨by first | omega | (simp (decide := true) only [au_1, nu_2, au_lt, nu_lt, aw_e, nw_e, au_s, au_n, nu_s, nu_n, au_au, nu_nu, au_nu]; omega), by first | omega | (simp (decide := true) only [au_1, nu_2, au_lt, nu_lt, aw_e, nw_e, au_s, au_n, nu_s, nu_n, au_au, nu_nu, au_nu]; omega)⟩ ?_
      refine w_goto (tgt := 80) dX10_round_132 rfl ?_
      -- at 80: .iload_n 1
      refine ih (by omega) _ G1 ?_
      rw [hS]
      obtain ⟨s1, wa, w1, w2⟩ := s0
      exact ⟨s1, wa, w1, fun y x y0 y1 x0 x1 z => w2 y x y0 y1 x0 x1 (by omega)⟩
    · intro j j0 j1 ihj _ G1 s
      have s0 := s
      rw [hS] at s0
      obtain ⟨s1, wa, w1, w2⟩ := s0
      have hO1 := (s1 (fO f) (by simp only []; omega)).trans hO
      have p46 := (s1 (26, f, 4) (by simp only []; omega)).trans hon6
      have w16 := w1.1
      obtain ⟨gn, gn1, gn2⟩ := hon.2 i i0 i1
      have gn1 := (s1 (27, 8 * f + 4, i) (by simp only []; omega)).trans gn1
      have x1 := gn2 j j0 j1
      simp only [] at x1
      obtain ⟨gw, gw1, -⟩ := w1.2 i i0 i1
      obtain ⟨r1, r2⟩ := rd1_r (σ := σ) (f := f) (pl := 8 * i + j) (b := b) (l := l) hk1.1
      have nxt : ∀ G2, S i (j + 1) G2 → tvW mX10_round (d + 6) K 123 [some (xR (fO f)), (some (xI i)), (some (xI j)), none, none] [] G2 bc bs := by
        intro G2 s
        refine w_inc2 (pc' := 126) dX10_round_123 rfl rfl ⟨by first | omega | (simp (decide := true) only [au_1, nu_2, au_lt, nu_lt, aw_e, nw_e, au_s, au_n, nu_s, nu_n, au_au, nu_nu, au_nu]; omega), by first | omega | (simp (decide := true) only [au_1, nu_2, au_lt, nu_lt, aw_e, nw_e, au_s, au_n, nu_s, nu_n, au_au, nu_nu, au_nu]; omega)⟩ ?_
        refine w_goto (tgt := 90) dX10_round_126 rfl ?_
        -- at 90: .iload_n 2
        exact ihj (by omega) G2 s
      refine w_iload_n (pc' := 91) dX10_round_90 rfl rfl ?_
      refine w_aload_n (pc' := 92) dX10_round_91 rfl rfl ?_
      refine w_get 1 (pc' := 95) dX10_round_92 rfl fX10_26_8 hO1 rfl ?_
      -- at 95: .if_icmp .ge 34
      refine w_icmp_ge (pc' := 98) (tgt := 129) dX10_round_95 rfl rfl (fun h_ => False.elim (by first | omega | (simp (decide := true) only [au_1, nu_2, au_lt, nu_lt, aw_e, nw_e, au_s, au_n, nu_s, nu_n, au_au, nu_nu, au_nu] at h_; omega))) (fun h_ => ?_)
      refine w_aload_n (pc' := 99) dX10_round_98 rfl rfl ?_
      refine w_get 8 (pc' := 102) dX10_round_99 rfl fX10_45_8 hO1 rfl ?_
      refine w_iload_n (pc' := 103) dX10_round_102 rfl rfl ?_
      refine w_aaldM (pc' := 104) dX10_round_103 rfl p46 i0 i1 ?_
      refine w_iload_n (pc' := 105) dX10_round_104 rfl rfl ?_
      refine w_zald (pc' := 106) dX10_round_105 rfl gn1 j0 j1 ?_
      -- at 106: .ifCond .eq 17
      rw [x1]
      by_cases q : 0 ≤ rd1 σ f b l (8 * i + j)
      · rw [b1_t q]
        refine w_if_eq (pc' := 109) (tgt := 123) dX10_round_106 rfl rfl (fun h_ => False.elim (by first | omega | (simp (decide := true) only [au_1, nu_2, au_lt, nu_lt, aw_e, nw_e, au_s, au_n, nu_s, nu_n, au_au, nu_nu, au_nu] at h_; omega))) (fun h_ => ?_)
        refine w_aload_n (pc' := 110) dX10_round_109 rfl rfl ?_
        refine w_get 7 (pc' := 113) dX10_round_110 rfl fX10_40_8 hO1 rfl ?_
        refine w_iload_n (pc' := 114) dX10_round_113 rfl rfl ?_
        refine w_aaldM (pc' := 115) dX10_round_114 rfl w16 i0 i1 ?_
        refine w_iload_n (pc' := 116) dX10_round_115 rfl rfl ?_
        refine w_aload_n (pc' := 117) dX10_round_116 rfl rfl ?_
        refine w_iload_n (pc' := 118) dX10_round_117 rfl rfl ?_
        refine w_iload_n (pc' := 119) dX10_round_118 rfl rfl ?_
        -- at 119: .invokevirtual 168
        refine w_callV2 (pc' := 122) (mc := 0) (ms := 0) dX10_round_119 rfl tX10_way q1047 rfl rfl qs38 q1045 hO1 rfl (Nat.le_of_ble_eq_true rfl) (Nat.le_of_ble_eq_true rfl) ?_
        refine c_X10_way (flR_fr (fun q hq => s1 q (by omega)) hR) hK hF hf eH eW hb hl ((s1 _ (by simp only []; omega)).trans hg) hgl (by omega) (by omega) (r1.mp q).2.2 (w_p1 ?_)
        rw [← (r2 q).1]
        refine w_iast (pc' := 123) dX10_round_122 rfl gw1 j0 j1  ?_
        -- at 123: .iinc 2 1
        refine w_upd (fun G2 a2 f2 => ?_)
        refine nxt G2 ?_
        rw [hS]
        refine ⟨fun q hq => (f2 q (fun z => hq (by rw [z]; exact ⟨rfl, rfl⟩))).trans (s1 q hq), _, fbd_s w1 gw1 a2 f2, fun y x y0 y1 x0 x1 z1 z2 => ?_⟩
        unfold upd2
        by_cases e : y = i ∧ x = j
        · rw [if_pos e, e.1, e.2]
        · rw [if_neg e]
          exact w2 y x y0 y1 x0 x1 (by omega) z2
      · rw [b1_f q]
        refine w_if_eq (pc' := 109) (tgt := 123) dX10_round_106 rfl rfl (fun h_ => ?_) (fun h_ => False.elim (by first | omega | (simp (decide := true) only [au_1, nu_2, au_lt, nu_lt, aw_e, nw_e, au_s, au_n, nu_s, nu_n, au_au, nu_nu, au_nu] at h_; omega)))
        refine nxt G1 ?_
        rw [hS]
        refine ⟨s1, wa, w1, fun y x y0 y1 x0 x1 z1 z2 => ?_⟩
        by_cases e : y = i ∧ x = j
        · rw [e.1, e.2] at z2
          exact absurd z2 q
        · exact w2 y x y0 y1 x0 x1 (by omega) z2
end
