set_option maxRecDepth 10000
/-! a board of truth values: rows (7, n, k) -/
def bbd (G : GH) (n : Int) (L : Int → Int → Prop) : Prop := G (6, n, 0) = some (xra 11 40 (mrow 7 n 40)) ∧ ∀ k : Int, 0 ≤ k → k < 40 → ∃ g, G (7, n, k) = some (xar 3 8 g) ∧ ∀ m : Int, 0 ≤ m → m < 8 → g m = b1 (L k m)
def zbd (G : GH) (n i j : Int) : Prop := G (6, n, 0) = some (xra 11 40 (mrow 7 n 40)) ∧ ∀ k : Int, 0 ≤ k → k < 40 → ∃ g, G (7, n, k) = some (xar 3 8 g) ∧ ∀ m : Int, 0 ≤ m → m < 8 → (k < i ∨ k = i ∧ m < j) → g m = 0
theorem bbd_fr {G G' : GH} {n : Int} {L : Int → Int → Prop} (h6 : G' (6, n, 0) = G (6, n, 0)) (hf : ∀ k, G' (7, n, k) = G (7, n, k)) (h : bbd G n L) : bbd G' n L := by
  refine ⟨h6.trans h.1, fun k k0 k1 => ?_⟩
  obtain ⟨g, g1, g2⟩ := h.2 k k0 k1
  exact ⟨g, (hf k).trans g1, g2⟩
theorem zbd_fr {G G' : GH} {n i j : Int} (h6 : G' (6, n, 0) = G (6, n, 0)) (hf : ∀ k, G' (7, n, k) = G (7, n, k)) (h : zbd G n i j) : zbd G' n i j := by
  refine ⟨h6.trans h.1, fun k k0 k1 => ?_⟩
  obtain ⟨g, g1, g2⟩ := h.2 k k0 k1
  exact ⟨g, (hf k).trans g1, g2⟩
theorem bbd_z {G : GH} {n : Int} {L : Int → Int → Prop} (h : bbd G n L) : zbd G n 0 0 := by
  refine ⟨h.1, fun k k0 k1 => ?_⟩
  obtain ⟨g, g1, g2⟩ := h.2 k k0 k1
  exact ⟨g, g1, fun m m0 m1 z => by omega⟩
theorem zbd_b {G : GH} {n : Int} (h : zbd G n 40 0) : bbd G n (fun _ _ => False) := by
  refine ⟨h.1, fun k k0 k1 => ?_⟩
  obtain ⟨g, g1, g2⟩ := h.2 k k0 k1
  exact ⟨g, g1, fun m m0 m1 => by rw [g2 m m0 m1 (by omega), b1_f (fun z => z)]⟩
theorem zbd_s {G G' : GH} {n i j : Int} {g : Int → Int} (h : zbd G n i j) (hg : G (7, n, i) = some (xar 3 8 g)) (h1 : G' (7, n, i) = some (xar 3 8 (iset g j 0))) (hf : ∀ q, q ≠ ((7, n, i) : Rl) → G' q = G q) : zbd G' n i (j + 1) := by
  refine ⟨(hf _ (rl_ne (by omega))).trans h.1, fun k k0 k1 => ?_⟩
  obtain ⟨g', g1, g2⟩ := h.2 k k0 k1
  by_cases e : k = i
  · subst e
    rw [hg] at g1
    cases g1
    refine ⟨_, h1, fun m m0 m1 z => ?_⟩
    unfold iset
    by_cases e : m = j
    · rw [if_pos e]
    · rw [if_neg e]
      exact g2 m m0 m1 (by omega)
  · exact ⟨g', (hf _ (rl_ne (by omega))).trans g1, fun m m0 m1 z => g2 m m0 m1 (by omega)⟩
theorem zbd_n {G : GH} {n i : Int} (h : zbd G n i 8) : zbd G n (i + 1) 0 := by
  refine ⟨h.1, fun k k0 k1 => ?_⟩
  obtain ⟨g, g1, g2⟩ := h.2 k k0 k1
  exact ⟨g, g1, fun m m0 m1 z => g2 m m0 m1 (by omega)⟩
theorem bbd_t {G G' : GH} {n k m : Int} {L : Int → Int → Prop} {g : Int → Int} (h : bbd G n L) (hg : G (7, n, k) = some (xar 3 8 g)) (h1 : G' (7, n, k) = some (xar 3 8 (iset g m 1))) (hf : ∀ q, q ≠ ((7, n, k) : Rl) → G' q = G q) : bbd G' n (fun k' m' => L k' m' ∨ k' = k ∧ m' = m) := by
  refine ⟨(hf _ (rl_ne (by omega))).trans h.1, fun k' k0 k1 => ?_⟩
  obtain ⟨g', g1, g2⟩ := h.2 k' k0 k1
  by_cases e : k' = k
  · subst e
    rw [hg] at g1
    cases g1
    refine ⟨_, h1, fun m' m0 m1 => ?_⟩
    unfold iset
    by_cases e : m' = m
    · rw [if_pos e, b1_t (Or.inr ⟨rfl, e⟩)]
    · rw [if_neg e, g2 m' m0 m1]
      exact b1_c ⟨fun z => Or.inl z, fun z => z.elim id (fun y => absurd y.2 e)⟩
  · refine ⟨g', (hf _ (rl_ne (by omega))).trans g1, fun m' m0 m1 => ?_⟩
    rw [g2 m' m0 m1]
    exact b1_c ⟨fun z => Or.inl z, fun z => z.elim id (fun y => absurd y.1 e)⟩
theorem bbd_c {G : GH} {n : Int} {L L' : Int → Int → Prop} (e : ∀ k m, 0 ≤ k → k < 40 → 0 ≤ m → m < 8 → (L k m ↔ L' k m)) (h : bbd G n L) : bbd G n L' := by
  refine ⟨h.1, fun k k0 k1 => ?_⟩
  obtain ⟨g, g1, g2⟩ := h.2 k k0 k1
  exact ⟨g, g1, fun m m0 m1 => (g2 m m0 m1).trans (b1_c (e k m k0 k1 m0 m1))⟩
/-- what a step changes -/
def sfr (r : Int) (G G' : GH) : Prop := ∀ q : Rl, ¬ (q.1 = 7 ∧ (q.2.1 = 0 ∨ q.2.1 = 1)) → q ≠ uA r → ¬ ((33 ≤ q.1 ∧ q.1 < 38) ∧ -(40 * r + 40) ≤ q.2.1 ∧ q.2.1 ≤ -1 - 40 * r) → G' q = G q
section
variable {d : Nat} {K : Option XV → GH → Prop} {G : GH} {bc bs : Nat} {σ : MS}
theorem c_X0_step_b {r k m u ma li : Int} {rg : Option Rl} {H W : Nat} {fk fm fs : Int → Int → Int} {N : Int → Int → Prop} {v5 v6 : Option XV} (hb : blo G (bid r k) H W fk fm fs) (hB : ∀ i j : Int, 0 ≤ i → i < H → 0 ≤ j → j < W → fk i j = cdat (uB σ r k i j) 0 ∧ fm i j = cdat (uB σ r k i j) 1) (hO : G (uO r) = some (xob 7 [xI H, xI W, xR (uA r)])) (eH : (H : Int) = σ.2 26 r) (eW : (W : Int) = σ.2 27 r) (hr : 0 ≤ r ∧ r < σ.1 29) (hK : kok σ) (hQ : qok σ) (hkin : Rkin σ G) (hof : off G u ma li rg) (hk : 0 ≤ k ∧ k < 40) (hm : 0 ≤ m ∧ m < 8) (hN : bbd G 1 N)
    (kk : ∀ (G' : GH) (N' : Int → Int → Prop) (v5 v6 : Option XV), (∀ q : Rl, ¬ (q.1 = 7 ∧ q.2.1 = 1) → G' q = G q) → bbd G' 1 N' → (∀ k' m', N k' m' → N' k' m') → (∀ k' m', N' k' m' → N k' m' ∨ ∃ y x, (0 ≤ y ∧ y < (H : Int)) ∧ (0 ≤ x ∧ x < (W : Int)) ∧ uB σ r k y x ≠ 0 ∧ kOf (uB σ r k y x) = k' ∧ lie (σ.2 3 k') (σ.2 1 k') (thn (mOf (uB σ r k y x)) m) = m') → (∀ y x : Int, 0 ≤ y → y < H → 0 ≤ x → x < W → uB σ r k y x ≠ 0 → N' (kOf (uB σ r k y x)) (lie (σ.2 3 (kOf (uB σ r k y x))) (σ.2 1 (kOf (uB σ r k y x))) (thn (mOf (uB σ r k y x)) m))) → tvW mX0_step (d + 4) K 200 [some (xR oR), some (xR (uO r)), (some (xI k)), (some (xI m)), (some (xR (33, bid r k, 0))), v5, v6] [] G' bc bs) : tvW mX0_step (d + 4) K 93 [some (xR oR), some (xR (uO r)), (some (xI k)), (some (xI m)), (some (xR (33, bid r k, 0))), v5, v6] [] G bc bs := by
  have hq := hQ.2 r hr.1 hr.2
  have hk1 := hK.1
  have hst : ∃ S : Int → Int → GH → (Int → Int → Prop) → Prop, S = fun y x G' N' => (∀ q : Rl, ¬ (q.1 = 7 ∧ q.2.1 = 1) → G' q = G q) ∧ bbd G' 1 N' ∧ (∀ k' m', N k' m' → N' k' m') ∧ (∀ k' m', N' k' m' → N k' m' ∨ ∃ y x, (0 ≤ y ∧ y < (H : Int)) ∧ (0 ≤ x ∧ x < (W : Int)) ∧ uB σ r k y x ≠ 0 ∧ kOf (uB σ r k y x) = k' ∧ lie (σ.2 3 k') (σ.2 1 k') (thn (mOf (uB σ r k y x)) m) = m') ∧ (∀ y0 x0 : Int, 0 ≤ y0 → y0 < H → 0 ≤ x0 → x0 < W → (y0 < y ∨ y0 = y ∧ x0 < x) → uB σ r k y0 x0 ≠ 0 → N' (kOf (uB σ r k y0 x0)) (lie (σ.2 3 (kOf (uB σ r k y0 x0))) (σ.2 1 (kOf (uB σ r k y0 x0))) (thn (mOf (uB σ r k y0 x0)) m))) := ⟨_, rfl⟩
  obtain ⟨S, hS⟩ := hst
  refine w_iconst (pc' := 94) dX0_step_93 rfl (by decide) ?_
  refine w_ist5 (pc' := 96) dX0_step_94 rfl rfl ?_
  -- at 96: .iload 5
  refine up (T := fun y => 0 ≤ y → ∀ (v6 : Option XV) (G1 : GH) (N1 : Int → Int → Prop), S y 0 G1 N1 → tvW mX0_step (d + 4) K 96 [some (xR oR), some (xR (uO r)), (some (xI k)), (some (xI m)), (some (xR (33, bid r k, 0))), (some (xI y)), v6] [] G1 bc bs) (H : Int) (by omega) ?_ ?_ (Int.le_refl _) v6 G N (by rw [hS]; exact ⟨fun _ _ => rfl, hN, fun _ _ z => z, fun _ _ z => Or.inl z, fun y0 x0 a1 a2 a3 a4 a5 => by omega⟩)
  · intro _ v6 G1 N1 s
    rw [hS] at s
    obtain ⟨s1, s2, s3, s4, s5⟩ := s
    have hO1 := (s1 (uO r) (by simp only []; omega)).trans hO
    refine w_iload (pc' := 98) dX0_step_96 rfl rfl ?_
    refine w_aload_n (pc' := 99) dX0_step_98 rfl rfl ?_
    refine w_get 0 (pc' := 102) dX0_step_99 rfl fX0_229_7 hO1 rfl ?_
    -- at 102: .if_icmp .ge 98
    refine w_icmp_ge (pc' := 105) (tgt := 200) dX0_step_102 rfl rfl (fun h_ => ?_) (fun h_ => False.elim (by first | omega | (simp (decide := true) only [au_1, nu_2, au_lt, nu_lt, aw_e, nw_e, au_s, au_n, nu_s, nu_n, au_au, nu_nu, au_nu] at h_; omega)))
    exact kk G1 N1 _ _ s1 s2 s3 s4 (fun y x y0 y1 x0 x1 => s5 y x y0 y1 x0 x1 (Or.inl y1))
  · intro y y0 y1 ih _ v6 G1 N1 s
    have hO1 : G1 (uO r) = some (xob 7 [xI H, xI W, xR (uA r)]) := by
      rw [hS] at s
      exact (s.1 (uO r) (by simp only []; omega)).trans hO
    refine w_iload (pc' := 98) dX0_step_96 rfl rfl ?_
    refine w_aload_n (pc' := 99) dX0_step_98 rfl rfl ?_
    refine w_get 0 (pc' := 102) dX0_step_99 rfl fX0_229_7 hO1 rfl ?_
    -- at 102: .if_icmp .ge 98
    refine w_icmp_ge (pc' := 105) (tgt := 200) dX0_step_102 rfl rfl (fun h_ => False.elim (by first | omega | (simp (decide := true) only [au_1, nu_2, au_lt, nu_lt, aw_e, nw_e, au_s, au_n, nu_s, nu_n, au_au, nu_nu, au_nu] at h_; omega))) (fun h_ => ?_)
    refine w_iconst (pc' := 106) dX0_step_105 rfl (by decide) ?_
    refine w_ist6 (pc' := 108) dX0_step_106 rfl rfl ?_
    -- at 108: .iload 6
    refine up (T := fun x => 0 ≤ x → ∀ (G1 : GH) (N1 : Int → Int → Prop), S y x G1 N1 → tvW mX0_step (d + 4) K 108 [some (xR oR), some (xR (uO r)), (some (xI k)), (some (xI m)), (some (xR (33, bid r k, 0))), (some (xI y)), (some (xI x))] [] G1 bc bs) (W : Int) (by omega) ?_ ?_ (Int.le_refl _) G1 N1 s
    · intro _ G1 N1 s
      have hO1 : G1 (uO r) = some (xob 7 [xI H, xI W, xR (uA r)]) := by
        rw [hS] at s
        exact (s.1 (uO r) (by simp only []; omega)).trans hO
      refine w_iload (pc' := 110) dX0_step_108 rfl rfl ?_
      refine w_aload_n (pc' := 111) dX0_step_110 rfl rfl ?_
      refine w_get 1 (pc' := 114) dX0_step_111 rfl fX0_231_7 hO1 rfl ?_
      -- at 114: .if_icmp .ge 80
      refine w_icmp_ge (pc' := 117) (tgt := 194) dX0_step_114 rfl rfl (fun h_ => ?_) (fun h_ => False.elim (by first | omega | (simp (decide := true) only [au_1, nu_2, au_lt, nu_lt, aw_e, nw_e, au_s, au_n, nu_s, nu_n, au_au, nu_nu, au_nu] at h_; omega)))
      refine w_inc5 (pc' := 197) dX0_step_194 rfl rfl ⟨by first | omega | (simp (decide := true) only [au_1, nu_2, au_lt, nu_lt, aw_e, nw_e, au_s, au_n, nu_s, nu_n, au_au, nu_nu, au_nu]; omega), by first | omega | (simp (decide := true) only [au_1, nu_2, au_lt, nu_lt, aw_e, nw_e, au_s, au_n, nu_s, nu_n, au_au, nu_nu, au_nu]; omega)⟩ ?_
      refine w_goto (tgt := 96) dX0_step_197 rfl ?_
      -- at 96: .iload 5
      refine ih (by omega) _ G1 N1 ?_
      rw [hS] at s ⊢
      obtain ⟨s1, s2, s3, s4, s5⟩ := s
      exact ⟨s1, s2, s3, s4, fun y0 x0 a1 a2 a3 a4 a5 => s5 y0 x0 a1 a2 a3 a4 (by omega)⟩
    · intro x x0 x1 ihx _ G1 N1 s
      have s0 := s
      rw [hS] at s
      obtain ⟨s1, s2, s3, s4, s5⟩ := s
      have hO1 := (s1 (uO r) (by simp only []; omega)).trans hO
      have hof1 := (s1 oR (by simp only []; omega)).trans hof
      unfold off at hof1
      have kin1 : Rkin σ G1 := Rkin_fr2 (fun z hz => s1 z (by omega)) hkin
      have b1' : blo G1 (bid r k) H W fk fm fs := blo_fr (fun z z1 z2 => s1 z (by omega)) hb
      obtain ⟨n1, n2, n3, n4, n5⟩ := b1'
      obtain ⟨⟨ga, ga1, ga2⟩, ⟨gb, gb1, gb2⟩, -⟩ := n5 y y0 y1
      obtain ⟨B1, B2⟩ := hB y x y0 y1 x0 x1
      have g1 := (ga2 x x0 x1).trans B1
      have g2 := (gb2 x x0 x1).trans B2
      have hBi := (hq.2.2 k y x hk.1 hk.2 y0 (by omega) x0 (by omega)).1
      have hBi : isC (σ.1 5) (uB σ r k y x) := hBi
      have nxt : ∀ (G2 : GH) (N2 : Int → Int → Prop), S y (x + 1) G2 N2 → tvW mX0_step (d + 4) K 188 [some (xR oR), some (xR (uO r)), (some (xI k)), (some (xI m)), (some (xR (33, bid r k, 0))), (some (xI y)), (some (xI x))] [] G2 bc bs := by
        intro G2 N2 s2
        refine w_inc6 (pc' := 191) dX0_step_188 rfl rfl ⟨by first | omega | (simp (decide := true) only [au_1, nu_2, au_lt, nu_lt, aw_e, nw_e, au_s, au_n, nu_s, nu_n, au_au, nu_nu, au_nu]; omega), by first | omega | (simp (decide := true) only [au_1, nu_2, au_lt, nu_lt, aw_e, nw_e, au_s, au_n, nu_s, nu_n, au_au, nu_nu, au_nu]; omega)⟩ ?_
        refine w_goto (tgt := 108) dX0_step_191 rfl ?_
        -- at 108: .iload 6
        exact ihx (by omega) G2 N2 s2
      generalize hBB : uB σ r k y x = B at *
      refine w_iload (pc' := 110) dX0_step_108 rfl rfl ?_
      refine w_aload_n (pc' := 111) dX0_step_110 rfl rfl ?_
      refine w_get 1 (pc' := 114) dX0_step_111 rfl fX0_231_7 hO1 rfl ?_
      -- at 114: .if_icmp .ge 80
      refine w_icmp_ge (pc' := 117) (tgt := 194) dX0_step_114 rfl rfl (fun h_ => False.elim (by first | omega | (simp (decide := true) only [au_1, nu_2, au_lt, nu_lt, aw_e, nw_e, au_s, au_n, nu_s, nu_n, au_au, nu_nu, au_nu] at h_; omega))) (fun h_ => ?_)
      refine w_aload (pc' := 119) dX0_step_117 rfl rfl ?_
      refine w_get 0 (pc' := 122) dX0_step_119 rfl fX0_207_6 n1 rfl ?_
      refine w_iload (pc' := 124) dX0_step_122 rfl rfl ?_
      refine w_aaldM (pc' := 125) dX0_step_124 rfl n2 y0 y1 ?_
      refine w_iload (pc' := 127) dX0_step_125 rfl rfl ?_
      refine w_bald (pc' := 128) dX0_step_127 rfl ga1 x0 x1 ?_
      -- at 128: .ifCond .lt 60
      rw [g1]
      by_cases z : B = 0
      · rw [(cd_0 z).1]
        refine w_if_lt (pc' := 131) (tgt := 188) dX0_step_128 rfl rfl (fun h_ => ?_) (fun h_ => False.elim (by first | omega | (simp (decide := true) only [au_1, nu_2, au_lt, nu_lt, aw_e, nw_e, au_s, au_n, nu_s, nu_n, au_au, nu_nu, au_nu] at h_; omega)))
        refine nxt G1 N1 ?_
        rw [hS]
        refine ⟨s1, s2, s3, s4, fun y0 x0 a1 a2 a3 a4 a5 a6 => ?_⟩
        by_cases e : y0 = y ∧ x0 = x
        · rw [e.1, e.2, hBB] at a6
          exact absurd z a6
        · exact s5 y0 x0 a1 a2 a3 a4 (by omega) a6
      · have hkB := isC_k hBi z
        obtain ⟨-, tT, -, -⟩ := hK.2 _ hkB.1 hkB.2
        have tl := kin1.2 _ hkB.1 hkB.2
        obtain ⟨lf, hlO⟩ := lst_o kin1.1
        have hmB := mOf_r (c := B)
        have hth := thn_r hmB.1 hmB.2 hm.1 hm.2
        have hli := lie_r (mir := σ.2 3 (kOf B)) tT hth.1 hth.2
        rw [(cd_n z).1] at g1
        rw [(cd_n z).2.1] at g2
        obtain ⟨gn, gn1, gn2⟩ := s2.2 (kOf B) hkB.1 (by omega)
        have s26 := s2.1
        rw [(cd_n z).1]
        refine w_if_lt (pc' := 131) (tgt := 188) dX0_step_128 rfl rfl (fun h_ => False.elim (by first | omega | (simp (decide := true) only [au_1, nu_2, au_lt, nu_lt, aw_e, nw_e, au_s, au_n, nu_s, nu_n, au_au, nu_nu, au_nu] at h_; omega))) (fun h_ => ?_)
        refine w_aload_n (pc' := 132) dX0_step_131 rfl rfl ?_
        refine w_get 10 (pc' := 135) dX0_step_132 rfl fX0_36_0 hof1 rfl ?_
        refine w_aload (pc' := 137) dX0_step_135 rfl rfl ?_
        refine w_get 0 (pc' := 140) dX0_step_137 rfl fX0_207_6 n1 rfl ?_
        refine w_iload (pc' := 142) dX0_step_140 rfl rfl ?_
        refine w_aaldM (pc' := 143) dX0_step_142 rfl n2 y0 y1 ?_
        refine w_iload (pc' := 145) dX0_step_143 rfl rfl ?_
        refine w_bald (pc' := 146) dX0_step_145 rfl ga1 x0 x1 ?_
        -- at 146: .aaload
        rw [g1]
        refine w_aaldM (pc' := 147) dX0_step_146 rfl s26 hkB.1 (by omega) ?_
        refine w_aload_n (pc' := 148) dX0_step_147 rfl rfl ?_
        refine w_get 0 (pc' := 151) dX0_step_148 rfl fX0_10_0 hof1 rfl ?_
        refine w_aload (pc' := 153) dX0_step_151 rfl rfl ?_
        refine w_get 0 (pc' := 156) dX0_step_153 rfl fX0_207_6 n1 rfl ?_
        refine w_iload (pc' := 158) dX0_step_156 rfl rfl ?_
        refine w_aaldM (pc' := 159) dX0_step_158 rfl n2 y0 y1 ?_
        refine w_iload (pc' := 161) dX0_step_159 rfl rfl ?_
        refine w_bald (pc' := 162) dX0_step_161 rfl ga1 x0 x1 ?_
        -- at 162: .invokevirtual 58
        rw [g1]
        refine w_callV1 (pc' := 165) (mc := 0) (ms := 0) dX0_step_162 rfl tJ2_get q211 rfl rfl q212 q210 hlO rfl (Nat.le_of_ble_eq_true rfl) (Nat.le_of_ble_eq_true rfl) ?_
        refine c_J2_get kin1.1 ⟨hkB.1, hkB.2⟩ ?_
        refine w_p1 ?_
        refine w_cast (pc' := 168) dX0_step_165 rfl tl.1 rfl q224 ?_
        refine w_aload (pc' := 170) dX0_step_168 rfl rfl ?_
        refine w_get 1 (pc' := 173) dX0_step_170 rfl fX0_210_6 n1 rfl ?_
        refine w_iload (pc' := 175) dX0_step_173 rfl rfl ?_
        refine w_aaldM (pc' := 176) dX0_step_175 rfl n3 y0 y1 ?_
        refine w_iload (pc' := 178) dX0_step_176 rfl rfl ?_
        refine w_bald (pc' := 179) dX0_step_178 rfl gb1 x0 x1 ?_
        -- at 179: .iload_n 3
        rw [g2]
        refine w_iload_n (pc' := 180) dX0_step_179 rfl rfl ?_
        -- at 180: .invokestatic 117
        refine w_callS2 (pc' := 183) (mc := 0) (ms := 0) dX0_step_180 rfl tX3_then q349 q348 rfl (Nat.le_of_ble_eq_true rfl) (Nat.le_of_ble_eq_true rfl) ?_
        refine c_X3_then hmB hm ?_
        refine w_p1 ?_
        refine w_callV1 (pc' := 186) (mc := 0) (ms := 0) dX0_step_183 rfl tX2_lies q327 rfl rfl q328 q326 tl.1 rfl (Nat.le_of_ble_eq_true rfl) (Nat.le_of_ble_eq_true rfl) ?_
        refine c_X2_lies tl tT hth ?_
        refine w_p1 ?_
        refine w_iconst (pc' := 187) dX0_step_186 rfl (by decide) ?_
        refine w_zast (pc' := 188) dX0_step_187 rfl gn1 hli.1 (by omega) (Or.inr rfl) ?_
        -- at 188: .iinc 6 1
        refine w_upd (fun G2 a2 f2 => ?_)
        have bb2 := bbd_t s2 gn1 a2 f2
        refine nxt G2 (fun k' m' => N1 k' m' ∨ k' = kOf B ∧ m' = lie (σ.2 3 (kOf B)) (σ.2 1 (kOf B)) (thn (mOf B) m)) ?_
        rw [hS]
        refine ⟨fun q hq => (f2 q (fun z => hq (by rw [z]; exact ⟨rfl, rfl⟩))).trans (s1 q hq), bb2, fun k' m' z => Or.inl (s3 k' m' z), fun k' m' z => ?_, fun y0' x0' a1 a2 a3 a4 a5 a6 => ?_⟩
        · rcases z with z | ⟨rfl, rfl⟩
          · exact s4 k' m' z
          · refine Or.inr ⟨y, x, ⟨y0, y1⟩, ⟨x0, x1⟩, ?_⟩
            rw [hBB]
            exact ⟨by assumption, rfl, rfl⟩
        · by_cases e : y0' = y ∧ x0' = x
          · rw [e.1, e.2, hBB]
            exact Or.inr ⟨rfl, rfl⟩
          · exact Or.inl (s5 y0' x0' a1 a2 a3 a4 (by omega) a6)
end
