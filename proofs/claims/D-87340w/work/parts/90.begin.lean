set_option maxRecDepth 10000
theorem sm_zr {f : Int → Int} {n n' : Int} (h0 : 0 ≤ n) (h1 : n ≤ n') (h : ∀ i, n ≤ i → i < n' → f i = 0) : sm f n' = sm f n := by
  have key : ∀ k : Nat, n + k ≤ n' → sm f (n + k) = sm f n := by
    intro k
    induction k with
    | zero => intro _; rw [show n + ((0 : Nat) : Int) = n by omega]
    | succ k ih =>
      intro hk
      rw [show n + ((k + 1 : Nat) : Int) = n + k + 1 by omega, sm_s (by omega), ih (by omega), h (n + k) (by omega) (by omega), Int.add_zero]
  have := key (n' - n).toNat (by omega)
  rw [show n + (((n' - n).toNat : Nat) : Int) = n' by omega] at this
  exact this
def leI (σ : MS) (f k : Int) : Int := (lcs σ f (min k.toNat (σ.1 5).toNat)).getD 2147483647
theorem isB_2 {σ : MS} {f i j : Int} (ht : -2 = σ.2 37 (64 * f + (8 * i + j)) ∨ 0 ≤ σ.2 37 (64 * f + (8 * i + j))) : isB σ f i j = 2 ↔ 0 < σ.2 37 (64 * f + 8 * i + j) := by
  rw [← Int.add_assoc] at ht
  unfold isB
  split
  · constructor
    · intro z; omega
    · intro z; omega
  · split
    · constructor
      · intro z; omega
      · intro z; omega
    · constructor
      · intro z; omega
      · intro z; rfl
section
variable {d : Nat} {K : Option XV → GH → Prop} {G : GH} {bc bs : Nat} {σ : MS} {f : Int} {H W : Nat} {b : Int → Int} {z0 z1 z2 z3 z4 z5 z6 z7 z8 z9 : Int}
theorem c_X10_clear (hO : G (fO f) = some (xob 8 (fob f H W z0 z1 z2 z3 z4 z5 z6 z7 z8 z9))) (hbd : fbd G f 0 10 0 H W (isB σ f)) (hly : fbd G f 1 10 0 H W (fun i j => lyB σ f b i j - 1)) (hF : fo1 σ) (hf : 0 ≤ f ∧ f < σ.1 40) (eH : (H : Int) = σ.2 35 f) (eW : (W : Int) = σ.2 36 f) (h : ∀ G', (∀ q : Rl, ¬ (q.1 = 27 ∧ q.2.1 = 8 * f + 1) → G' q = G q) → fbd G' f 1 10 0 H W (fun i j => lyB σ f (fun _ => 0) i j - 1) → K none G') : tvW mX10_clear d K 0 [some (xR (fO f)), none, none] [] G bc bs := by
  have hd := hF.2 f hf.1 hf.2
  have hbd6 := hbd.1
  have hly6 := hly.1
  have val : ∀ i j : Int, 0 ≤ i → i < H → 0 ≤ j → j < W → (isB σ f i j = 2 → lyB σ f b i j = lyB σ f (fun _ => 0) i j) ∧ (isB σ f i j ≠ 2 → lyB σ f (fun _ => 0) i j = 0) := by
    intro i j i0 i1 j0 j1
    have ht := hd.2.2.1 (8 * i + j) (by omega) (by omega)
    have hb2 := isB_2 (σ := σ) (f := f) (i := i) (j := j) (by omega)
    have hin : (0 ≤ i ∧ i < σ.2 35 f) ∧ 0 ≤ j ∧ j < σ.2 36 f := ⟨⟨i0, by omega⟩, j0, by omega⟩
    unfold lyB
    rw [if_pos hin, if_pos hin]
    refine ⟨fun z => by rw [if_pos (hb2.mp z), if_pos (hb2.mp z)], fun z => ?_⟩
    rw [if_neg (fun y => z (hb2.mpr y))]
    split <;> rfl
  have hst : ∃ S : Int → Int → GH → Prop, S = fun i j G1 => (∀ q : Rl, ¬ (q.1 = 27 ∧ q.2.1 = 8 * f + 1) → G1 q = G q) ∧ ∀ y : Int, 0 ≤ y → y < H → ∃ g, G1 (27, 8 * f + 1, y) = some (xar 0 W g) ∧ ∀ x : Int, 0 ≤ x → x < W → g x = (if y < i ∨ y = i ∧ x < j then lyB σ f (fun _ => 0) y x - 1 else lyB σ f b y x - 1) := ⟨_, rfl⟩
  obtain ⟨S, hS⟩ := hst
  refine w_iconst (pc' := 1) dX10_clear_0 rfl (by decide) ?_
  refine w_ist1 (pc' := 2) dX10_clear_1 rfl rfl ?_
  -- at 2: .iload_n 1
  refine up (T := fun i => 0 ≤ i → ∀ (v2 : Option XV) (G1 : GH), S i 0 G1 → tvW mX10_clear d K 2 [some (xR (fO f)), some (xI i), v2] [] G1 bc bs) (a := 0) (H : Int) (by omega) ?_ ?_ (Int.le_refl _) none G ?_
  · intro _ v2 G1 s
    rw [hS] at s
    have hO1 := (s.1 (fO f) (by simp only []; omega)).trans hO
    refine w_iload_n (pc' := 3) dX10_clear_2 rfl rfl ?_
    refine w_aload_n (pc' := 4) dX10_clear_3 rfl rfl ?_
    refine w_get 0 (pc' := 7) dX10_clear_4 rfl fX10_22_8 hO1 rfl ?_
    -- at 7: .if_icmp .ge 46
    refine w_icmp_ge (pc' := 10) (tgt := 53) dX10_clear_7 rfl rfl (fun h_ => ?_) (fun h_ => False.elim (by first | omega | (simp (decide := true) only [au_1, nu_2, au_lt, nu_lt, aw_e, nw_e, au_s, au_n, nu_s, nu_n, au_au, nu_nu, au_nu] at h_; omega)))
    refine w_return dX10_clear_53 rfl ?_
    refine h G1 s.1 ⟨(s.1 _ (by simp only []; omega)).trans hly6, fun y y0 y1 => ?_⟩
    obtain ⟨g, g1, g2⟩ := s.2 y y0 y1
    exact ⟨g, g1, fun x x0 x1 => by rw [g2 x x0 x1, if_pos (Or.inl y1)]⟩
  · intro i i0 i1 ih _ v2 G1 s
    have s0 := s
    rw [hS] at s0
    have hO1 := (s0.1 (fO f) (by simp only []; omega)).trans hO
    refine w_iload_n (pc' := 3) dX10_clear_2 rfl rfl ?_
    refine w_aload_n (pc' := 4) dX10_clear_3 rfl rfl ?_
    refine w_get 0 (pc' := 7) dX10_clear_4 rfl fX10_22_8 hO1 rfl ?_
    -- at 7: .if_icmp .ge 46
    refine w_icmp_ge (pc' := 10) (tgt := 53) dX10_clear_7 rfl rfl (fun h_ => False.elim (by first | omega | (simp (decide := true) only [au_1, nu_2, au_lt, nu_lt, aw_e, nw_e, au_s, au_n, nu_s, nu_n, au_au, nu_nu, au_nu] at h_; omega))) (fun h_ => ?_)
    refine w_iconst (pc' := 11) dX10_clear_10 rfl (by decide) ?_
    refine w_ist2 (pc' := 12) dX10_clear_11 rfl rfl ?_
    -- at 12: .iload_n 2
    refine up (T := fun j => 0 ≤ j → ∀ (G1 : GH), S i j G1 → tvW mX10_clear d K 12 [some (xR (fO f)), some (xI i), some (xI j)] [] G1 bc bs) (a := 0) (W : Int) (by omega) ?_ ?_ (Int.le_refl _) G1 s
    · intro _ G1 s
      have s0 := s
      rw [hS] at s0
      have hO1 := (s0.1 (fO f) (by simp only []; omega)).trans hO
      refine w_iload_n (pc' := 13) dX10_clear_12 rfl rfl ?_
      refine w_aload_n (pc' := 14) dX10_clear_13 rfl rfl ?_
      refine w_get 1 (pc' := 17) dX10_clear_14 rfl fX10_26_8 hO1 rfl ?_
      -- at 17: .if_icmp .ge 30
      refine w_icmp_ge (pc' := 20) (tgt := 47) dX10_clear_17 rfl rfl (fun h_ => ?_) (fun h_ => False.elim (by first | omega | (simp (decide := true) only [au_1, nu_2, au_lt, nu_lt, aw_e, nw_e, au_s, au_n, nu_s, nu_n, au_au, nu_nu, au_nu] at h_; omega)))
      refine w_inc1 (pc' := 50) dX10_clear_47 rfl rfl ⟨by first | omega | (simp (decide := true) only [au_1, nu_2, au_lt, nu_lt, aw_e, nw_e, au_s, au_n, nu_s, nu_n, au_au, nu_nu, au_nu]; omega), by first | omega | (simp (decide := true) only [au_1, nu_2, au_lt, nu_lt, aw_e, nw_e, au_s, au_n, nu_s, nu_n, au_au, nu_nu, au_nu]; omega)⟩ ?_
      refine w_goto (tgt := 2) dX10_clear_50 rfl ?_
      -- at 2: .iload_n 1
      refine ih (by omega) _ G1 ?_
      rw [hS]
      refine ⟨s0.1, fun y y0 y1 => ?_⟩
      obtain ⟨g, g1, g2⟩ := s0.2 y y0 y1
      refine ⟨g, g1, fun x x0 x1 => ?_⟩
      rw [g2 x x0 x1]
      by_cases e : y < i ∨ y = i ∧ x < (W : Int)
      · rw [if_pos e, if_pos (by omega)]
      · rw [if_neg e, if_neg (by omega)]
    · intro j j0 j1 ihj _ G1 s
      have s0 := s
      rw [hS] at s0
      obtain ⟨s1, s2⟩ := s0
      have hO1 := (s1 (fO f) (by simp only []; omega)).trans hO
      have p06 := (s1 (26, f, 0) (by simp only []; omega)).trans hbd6
      have p16 := (s1 (26, f, 1) (by simp only []; omega)).trans hly6
      obtain ⟨gi, gi1, gi2⟩ := hbd.2 i i0 i1
      have gi1 := (s1 (27, 8 * f + 0, i) (by simp only []; omega)).trans gi1
      have x1 := gi2 j j0 j1
      obtain ⟨gl, gl1, gl2⟩ := s2 i i0 i1
      obtain ⟨v1, v2⟩ := val i j i0 i1 j0 j1
      have nxt : ∀ G2, S i (j + 1) G2 → tvW mX10_clear d K 41 [some (xR (fO f)), some (xI i), some (xI j)] [] G2 bc bs := by
        intro G2 s
        refine w_inc2 (pc' := 44) dX10_clear_41 rfl rfl ⟨by first | omega | (simp (decide := true) only [au_1, nu_2, au_lt, nu_lt, aw_e, nw_e, au_s, au_n, nu_s, nu_n, au_au, nu_nu, au_nu]; omega), by first | omega | (simp (decide := true) only [au_1, nu_2, au_lt, nu_lt, aw_e, nw_e, au_s, au_n, nu_s, nu_n, au_au, nu_nu, au_nu]; omega)⟩ ?_
        refine w_goto (tgt := 12) dX10_clear_44 rfl ?_
        -- at 12: .iload_n 2
        exact ihj (by omega) G2 s
      refine w_iload_n (pc' := 13) dX10_clear_12 rfl rfl ?_
      refine w_aload_n (pc' := 14) dX10_clear_13 rfl rfl ?_
      refine w_get 1 (pc' := 17) dX10_clear_14 rfl fX10_26_8 hO1 rfl ?_
      -- at 17: .if_icmp .ge 30
      refine w_icmp_ge (pc' := 20) (tgt := 47) dX10_clear_17 rfl rfl (fun h_ => False.elim (by first | omega | (simp (decide := true) only [au_1, nu_2, au_lt, nu_lt, aw_e, nw_e, au_s, au_n, nu_s, nu_n, au_au, nu_nu, au_nu] at h_; omega))) (fun h_ => ?_)
      refine w_aload_n (pc' := 21) dX10_clear_20 rfl rfl ?_
      refine w_get 2 (pc' := 24) dX10_clear_21 rfl fX10_31_8 hO1 rfl ?_
      refine w_iload_n (pc' := 25) dX10_clear_24 rfl rfl ?_
      refine w_aaldM (pc' := 26) dX10_clear_25 rfl p06 i0 i1 ?_
      refine w_iload_n (pc' := 27) dX10_clear_26 rfl rfl ?_
      refine w_iald (pc' := 28) dX10_clear_27 rfl gi1 j0 j1 ?_
      -- at 28: .iconst 2
      rw [x1]
      refine w_iconst (pc' := 29) dX10_clear_28 rfl (by decide) ?_
      -- at 29: .if_icmp .eq 12
      refine w_icmp_eq (pc' := 32) (tgt := 41) dX10_clear_29 rfl rfl (fun q => ?_) (fun q => ?_)
      · refine nxt G1 ?_
        rw [hS]
        refine ⟨s1, fun y y0 y1 => ?_⟩
        obtain ⟨g, g1, g2⟩ := s2 y y0 y1
        refine ⟨g, g1, fun x x0 x1 => ?_⟩
        rw [g2 x x0 x1]
        by_cases e : y = i ∧ x = j
        · rw [e.1, e.2, if_neg (by omega), if_pos (by omega), v1 q]
        · by_cases e2 : y < i ∨ y = i ∧ x < j
          · rw [if_pos e2, if_pos (by omega)]
          · rw [if_neg e2, if_neg (by omega)]
      · refine w_aload_n (pc' := 33) dX10_clear_32 rfl rfl ?_
        refine w_get 5 (pc' := 36) dX10_clear_33 rfl fX10_34_8 hO1 rfl ?_
        refine w_iload_n (pc' := 37) dX10_clear_36 rfl rfl ?_
        refine w_aaldM (pc' := 38) dX10_clear_37 rfl p16 i0 i1 ?_
        refine w_iload_n (pc' := 39) dX10_clear_38 rfl rfl ?_
        refine w_iconst (pc' := 40) dX10_clear_39 rfl (by decide) ?_
        refine w_iast (pc' := 41) dX10_clear_40 rfl gl1 j0 j1  ?_
        -- at 41: .iinc 2 1
        refine w_upd (fun G2 a2 f2 => ?_)
        refine nxt G2 ?_
        rw [hS]
        refine ⟨fun q hq => (f2 q (fun z => hq (by rw [z]; exact ⟨rfl, rfl⟩))).trans (s1 q hq), fun y y0 y1 => ?_⟩
        by_cases ey : y = i
        · rw [ey]
          refine ⟨_, a2, fun x x0 x1 => ?_⟩
          unfold iset
          by_cases ex : x = j
          · rw [if_pos ex, ex, if_pos (by omega), v2 q]
            rfl
          · rw [if_neg ex, gl2 x x0 x1]
            by_cases e2 : i < i ∨ i = i ∧ x < j
            · rw [if_pos e2, if_pos (by omega)]
            · rw [if_neg e2, if_neg (by omega)]
        · obtain ⟨g, g1, g2⟩ := s2 y y0 y1
          refine ⟨g, (f2 _ (rl_ne (by omega))).trans g1, fun x x0 x1 => ?_⟩
          rw [g2 x x0 x1]
          by_cases e2 : y < i ∨ y = i ∧ x < j
          · rw [if_pos e2, if_pos (by omega)]
          · rw [if_neg e2, if_neg (by omega)]
  · rw [hS]
    refine ⟨fun _ _ => rfl, fun y y0 y1 => ?_⟩
    obtain ⟨g, g1, g2⟩ := hly.2 y y0 y1
    exact ⟨g, g1, fun x x0 x1 => by rw [g2 x x0 x1, if_neg (by omega)]⟩
theorem c_X10_isGood (hS : flR σ f H W (fun _ => 0) G) (hK : kok σ) (hF : fo1 σ) (hf : 0 ≤ f ∧ f < σ.1 40) (eH : (H : Int) = σ.2 35 f) (eW : (W : Int) = σ.2 36 f) (h1 : gdB σ f → K (some (xI 1)) G) (h0 : ¬ gdB σ f → K (some (xI 0)) G) : tvW mX10_isGood (d + 5) K 0 [some (xR (fO f)), none, none, none] [] G bc bs := by
  have hk1 := hK.1
  have hd := hF.2 f hf.1 hf.2
  have hb : bok σ f (fun _ => 0) := fun k _ _ _ => ⟨Int.le_refl _, by simp only []; omega⟩
  obtain ⟨-, -, ⟨z0, z1, z2, z3, z4, z5, z6, z7, z8, z9, hO⟩, hbd, hly⟩ := id hS
  have hbd6 := hbd.1
  have hly6 := hly.1
  have hst : ∃ Q : Int → Int → Prop, Q = fun i j => ∀ k, 0 ≤ k → k < 64 → k / 8 < σ.2 35 f → k % 8 < σ.2 36 f → (k / 8 < i ∨ k / 8 = i ∧ k % 8 < j) → 0 < σ.2 37 (64 * f + k) → mlB σ f (fun _ => 0) k (σ.2 37 (64 * f + k)) := ⟨_, rfl⟩
  obtain ⟨Q, hQ⟩ := hst
  unfold gdB at h1 h0
  have fin : ∀ (y : Int) (v3 : Option XV), 0 ≤ y → y ≤ H → (¬ ∀ k, 0 ≤ k → k < 64 → k / 8 < σ.2 35 f → k % 8 < σ.2 36 f → 0 < σ.2 37 (64 * f + k) → mlB σ f (fun _ => 0) k (σ.2 37 (64 * f + k))) → tvW mX10_isGood (d + 5) K 4 [some (xR (fO f)), some (xI 0), some (xI y), v3] [] G bc bs := by
    intro y v3 y0 y1 hn
    refine up (T := fun y => 0 ≤ y → ∀ v3 : Option XV, tvW mX10_isGood (d + 5) K 4 [some (xR (fO f)), some (xI 0), some (xI y), v3] [] G bc bs) (H : Int) y1 ?_ ?_ y0 v3
    · intro _ v3
      refine w_iload_n (pc' := 5) dX10_isGood_4 rfl rfl ?_
      refine w_aload_n (pc' := 6) dX10_isGood_5 rfl rfl ?_
      refine w_get 0 (pc' := 9) dX10_isGood_6 rfl fX10_22_8 hO rfl ?_
      -- at 9: .if_icmp .ge 77
      refine w_icmp_ge (pc' := 12) (tgt := 86) dX10_isGood_9 rfl rfl (fun h_ => ?_) (fun h_ => False.elim (by first | omega | (simp (decide := true) only [au_1, nu_2, au_lt, nu_lt, aw_e, nw_e, au_s, au_n, nu_s, nu_n, au_au, nu_nu, au_nu] at h_; omega)))
      refine w_iload_n (pc' := 87) dX10_isGood_86 rfl rfl ?_
      -- at 87: .ireturn
      refine w_zreturn dX10_isGood_87 rfl (by first | exact Or.inl rfl | exact Or.inr rfl | omega) ?_
      exact h0 hn
    · intro y y0 y1 ih _ v3
      refine w_iload_n (pc' := 5) dX10_isGood_4 rfl rfl ?_
      refine w_aload_n (pc' := 6) dX10_isGood_5 rfl rfl ?_
      refine w_get 0 (pc' := 9) dX10_isGood_6 rfl fX10_22_8 hO rfl ?_
      -- at 9: .if_icmp .ge 77
      refine w_icmp_ge (pc' := 12) (tgt := 86) dX10_isGood_9 rfl rfl (fun h_ => False.elim (by first | omega | (simp (decide := true) only [au_1, nu_2, au_lt, nu_lt, aw_e, nw_e, au_s, au_n, nu_s, nu_n, au_au, nu_nu, au_nu] at h_; omega))) (fun h_ => ?_)
      refine w_iconst (pc' := 13) dX10_isGood_12 rfl (by decide) ?_
      refine w_ist3 (pc' := 14) dX10_isGood_13 rfl rfl ?_
      refine w_iload_n (pc' := 15) dX10_isGood_14 rfl rfl ?_
      refine w_aload_n (pc' := 16) dX10_isGood_15 rfl rfl ?_
      refine w_get 1 (pc' := 19) dX10_isGood_16 rfl fX10_26_8 hO rfl ?_
      -- at 19: .if_icmp .ge 61
      refine w_icmp_ge (pc' := 22) (tgt := 80) dX10_isGood_19 rfl rfl (fun h_ => False.elim (by first | omega | (simp (decide := true) only [au_1, nu_2, au_lt, nu_lt, aw_e, nw_e, au_s, au_n, nu_s, nu_n, au_au, nu_nu, au_nu] at h_; omega))) (fun h_ => ?_)
      refine w_iload_n (pc' := 23) dX10_isGood_22 rfl rfl ?_
      -- at 23: .ifCond .eq 57
      refine w_if_eq (pc' := 26) (tgt := 80) dX10_isGood_23 rfl rfl (fun h_ => ?_) (fun h_ => False.elim (by first | omega | (simp (decide := true) only [au_1, nu_2, au_lt, nu_lt, aw_e, nw_e, au_s, au_n, nu_s, nu_n, au_au, nu_nu, au_nu] at h_; omega)))
      refine w_inc2 (pc' := 83) dX10_isGood_80 rfl rfl ⟨by first | omega | (simp (decide := true) only [au_1, nu_2, au_lt, nu_lt, aw_e, nw_e, au_s, au_n, nu_s, nu_n, au_au, nu_nu, au_nu]; omega), by first | omega | (simp (decide := true) only [au_1, nu_2, au_lt, nu_lt, aw_e, nw_e, au_s, au_n, nu_s, nu_n, au_au, nu_nu, au_nu]; omega)⟩ ?_
      refine w_goto (tgt := 4) dX10_isGood_83 rfl ?_
      -- at 4: .iload_n 2
      exact ih (by omega) _
  refine w_iconst (pc' := 1) dX10_isGood_0 rfl (by decide) ?_
  refine w_ist1 (pc' := 2) dX10_isGood_1 rfl rfl ?_
  refine w_iconst (pc' := 3) dX10_isGood_2 rfl (by decide) ?_
  refine w_ist2 (pc' := 4) dX10_isGood_3 rfl rfl ?_
  -- at 4: .iload_n 2
  refine up (T := fun i => 0 ≤ i → ∀ v3 : Option XV, Q i 0 → tvW mX10_isGood (d + 5) K 4 [some (xR (fO f)), some (xI 1), some (xI i), v3] [] G bc bs) (a := 0) (H : Int) (by omega) ?_ ?_ (Int.le_refl _) none (by rw [hQ]; intro k k0 k1 k2 k3 k4; omega)
  · intro _ v3 hq
    refine w_iload_n (pc' := 5) dX10_isGood_4 rfl rfl ?_
    refine w_aload_n (pc' := 6) dX10_isGood_5 rfl rfl ?_
    refine w_get 0 (pc' := 9) dX10_isGood_6 rfl fX10_22_8 hO rfl ?_
    -- at 9: .if_icmp .ge 77
    refine w_icmp_ge (pc' := 12) (tgt := 86) dX10_isGood_9 rfl rfl (fun h_ => ?_) (fun h_ => False.elim (by first | omega | (simp (decide := true) only [au_1, nu_2, au_lt, nu_lt, aw_e, nw_e, au_s, au_n, nu_s, nu_n, au_au, nu_nu, au_nu] at h_; omega)))
    refine w_iload_n (pc' := 87) dX10_isGood_86 rfl rfl ?_
    -- at 87: .ireturn
    refine w_zreturn dX10_isGood_87 rfl (by first | exact Or.inl rfl | exact Or.inr rfl | omega) ?_
    refine h1 (fun k k0 k1 k2 k3 k4 => ?_)
    rw [hQ] at hq
    exact hq k k0 k1 k2 k3 (by omega) k4
  · intro i i0 i1 ih _ v3 hq
    refine w_iload_n (pc' := 5) dX10_isGood_4 rfl rfl ?_
    refine w_aload_n (pc' := 6) dX10_isGood_5 rfl rfl ?_
    refine w_get 0 (pc' := 9) dX10_isGood_6 rfl fX10_22_8 hO rfl ?_
    -- at 9: .if_icmp .ge 77
    refine w_icmp_ge (pc' := 12) (tgt := 86) dX10_isGood_9 rfl rfl (fun h_ => False.elim (by first | omega | (simp (decide := true) only [au_1, nu_2, au_lt, nu_lt, aw_e, nw_e, au_s, au_n, nu_s, nu_n, au_au, nu_nu, au_nu] at h_; omega))) (fun h_ => ?_)
    refine w_iconst (pc' := 13) dX10_isGood_12 rfl (by decide) ?_
    refine w_ist3 (pc' := 14) dX10_isGood_13 rfl rfl ?_
    -- at 14: .iload_n 3
    refine up (T := fun j => 0 ≤ j → Q i j → tvW mX10_isGood (d + 5) K 14 [some (xR (fO f)), some (xI 1), some (xI i), some (xI j)] [] G bc bs) (a := 0) (W : Int) (by omega) ?_ ?_ (Int.le_refl _) hq
    · intro _ hq
      refine w_iload_n (pc' := 15) dX10_isGood_14 rfl rfl ?_
      refine w_aload_n (pc' := 16) dX10_isGood_15 rfl rfl ?_
      refine w_get 1 (pc' := 19) dX10_isGood_16 rfl fX10_26_8 hO rfl ?_
      -- at 19: .if_icmp .ge 61
      refine w_icmp_ge (pc' := 22) (tgt := 80) dX10_isGood_19 rfl rfl (fun h_ => ?_) (fun h_ => False.elim (by first | omega | (simp (decide := true) only [au_1, nu_2, au_lt, nu_lt, aw_e, nw_e, au_s, au_n, nu_s, nu_n, au_au, nu_nu, au_nu] at h_; omega)))
      refine w_inc2 (pc' := 83) dX10_isGood_80 rfl rfl ⟨by first | omega | (simp (decide := true) only [au_1, nu_2, au_lt, nu_lt, aw_e, nw_e, au_s, au_n, nu_s, nu_n, au_au, nu_nu, au_nu]; omega), by first | omega | (simp (decide := true) only [au_1, nu_2, au_lt, nu_lt, aw_e, nw_e, au_s, au_n, nu_s, nu_n, au_au, nu_nu, au_nu]; omega)⟩ ?_
      refine w_goto (tgt := 4) dX10_isGood_83 rfl ?_
      -- at 4: .iload_n 2
      refine ih (by omega) _ ?_
      rw [hQ] at hq ⊢
      intro k k0 k1 k2 k3 k4
      exact hq k k0 k1 k2 k3 (by omega)
    · intro j j0 j1 ihj _ hq
      obtain ⟨gi, gi1, gi2⟩ := hbd.2 i i0 i1
      obtain ⟨gl, gl1, gl2⟩ := hly.2 i i0 i1
      have x1 := gi2 j j0 j1
      have x2 := gl2 j j0 j1
      simp only [] at x2
      have ht := hd.2.2.1 (8 * i + j) (by omega) (by omega)
      have hb2 := isB_2 (σ := σ) (f := f) (i := i) (j := j) (by omega)
      have yes : (0 < σ.2 37 (64 * f + (8 * i + j)) → mlB σ f (fun _ => 0) (8 * i + j) (σ.2 37 (64 * f + (8 * i + j)))) → tvW mX10_isGood (d + 5) K 68 [some (xR (fO f)), some (xI 1), some (xI i), some (xI j)] [] G bc bs := by
        intro hm
        refine w_iconst (pc' := 69) dX10_isGood_68 rfl (by decide) ?_
        refine w_goto (tgt := 73) dX10_isGood_69 rfl ?_
        refine w_ist1 (pc' := 74) dX10_isGood_73 rfl rfl ?_
        refine w_inc3 (pc' := 77) dX10_isGood_74 rfl rfl ⟨by first | omega | (simp (decide := true) only [au_1, nu_2, au_lt, nu_lt, aw_e, nw_e, au_s, au_n, nu_s, nu_n, au_au, nu_nu, au_nu]; omega), by first | omega | (simp (decide := true) only [au_1, nu_2, au_lt, nu_lt, aw_e, nw_e, au_s, au_n, nu_s, nu_n, au_au, nu_nu, au_nu]; omega)⟩ ?_
        refine w_goto (tgt := 14) dX10_isGood_77 rfl ?_
        -- at 14: .iload_n 3
        refine ihj (by omega) ?_
        rw [hQ] at hq ⊢
        intro k k0 k1 k2 k3 k4 k5
        by_cases e : k = 8 * i + j
        · rw [e] at k5 ⊢
          exact hm k5
        · exact hq k k0 k1 k2 k3 (by omega) k5
      refine w_iload_n (pc' := 15) dX10_isGood_14 rfl rfl ?_
      refine w_aload_n (pc' := 16) dX10_isGood_15 rfl rfl ?_
      refine w_get 1 (pc' := 19) dX10_isGood_16 rfl fX10_26_8 hO rfl ?_
      -- at 19: .if_icmp .ge 61
      refine w_icmp_ge (pc' := 22) (tgt := 80) dX10_isGood_19 rfl rfl (fun h_ => False.elim (by first | omega | (simp (decide := true) only [au_1, nu_2, au_lt, nu_lt, aw_e, nw_e, au_s, au_n, nu_s, nu_n, au_au, nu_nu, au_nu] at h_; omega))) (fun h_ => ?_)
      refine w_iload_n (pc' := 23) dX10_isGood_22 rfl rfl ?_
      -- at 23: .ifCond .eq 57
      refine w_if_eq (pc' := 26) (tgt := 80) dX10_isGood_23 rfl rfl (fun h_ => False.elim (by first | omega | (simp (decide := true) only [au_1, nu_2, au_lt, nu_lt, aw_e, nw_e, au_s, au_n, nu_s, nu_n, au_au, nu_nu, au_nu] at h_; omega))) (fun h_ => ?_)
      refine w_aload_n (pc' := 27) dX10_isGood_26 rfl rfl ?_
      refine w_get 2 (pc' := 30) dX10_isGood_27 rfl fX10_31_8 hO rfl ?_
      refine w_iload_n (pc' := 31) dX10_isGood_30 rfl rfl ?_
      refine w_aaldM (pc' := 32) dX10_isGood_31 rfl hbd6 i0 i1 ?_
      refine w_iload_n (pc' := 33) dX10_isGood_32 rfl rfl ?_
      refine w_iald (pc' := 34) dX10_isGood_33 rfl gi1 j0 j1 ?_
      -- at 34: .iconst 2
      rw [x1]
      refine w_iconst (pc' := 35) dX10_isGood_34 rfl (by decide) ?_
      -- at 35: .if_icmp .ne 33
      refine w_icmp_ne (pc' := 38) (tgt := 68) dX10_isGood_35 rfl rfl (fun q => ?_) (fun q => ?_)
      · refine yes (fun z => absurd ?_ q)
        rw [hb2, Int.add_assoc]
        exact z
      · have hgt : 0 < σ.2 37 (64 * f + (8 * i + j)) := by
          rw [← Int.add_assoc]
          exact hb2.mp q
        have hin : (0 ≤ i ∧ i < σ.2 35 f) ∧ 0 ≤ j ∧ j < σ.2 36 f := ⟨⟨i0, by omega⟩, j0, by omega⟩
        have elt : lyB σ f (fun _ => 0) i j = σ.2 37 (64 * f + (8 * i + j)) := by
          unfold lyB
          rw [if_pos hin, Int.add_assoc, if_pos hgt]
        rw [elt] at x2
        generalize hT : σ.2 37 (64 * f + (8 * i + j)) = T at *
        refine w_aload_n (pc' := 39) dX10_isGood_38 rfl rfl ?_
        refine w_iload_n (pc' := 40) dX10_isGood_39 rfl rfl ?_
        refine w_iload_n (pc' := 41) dX10_isGood_40 rfl rfl ?_
        refine w_aload_n (pc' := 42) dX10_isGood_41 rfl rfl ?_
        refine w_get 5 (pc' := 45) dX10_isGood_42 rfl fX10_34_8 hO rfl ?_
        refine w_iload_n (pc' := 46) dX10_isGood_45 rfl rfl ?_
        refine w_aaldM (pc' := 47) dX10_isGood_46 rfl hly6 i0 i1 ?_
        refine w_iload_n (pc' := 48) dX10_isGood_47 rfl rfl ?_
        refine w_iald (pc' := 49) dX10_isGood_48 rfl gl1 j0 j1 ?_
        -- at 49: .iconst 3
        rw [x2]
        refine w_iconst (pc' := 50) dX10_isGood_49 rfl (by decide) ?_
        refine w_ishr (pc' := 51) dX10_isGood_50 rfl ?_
        -- at 51: .aload_n 0
        rw [bShr_3 ⟨by omega, by omega⟩]
        refine w_aload_n (pc' := 52) dX10_isGood_51 rfl rfl ?_
        refine w_get 5 (pc' := 55) dX10_isGood_52 rfl fX10_34_8 hO rfl ?_
        refine w_iload_n (pc' := 56) dX10_isGood_55 rfl rfl ?_
        refine w_aaldM (pc' := 57) dX10_isGood_56 rfl hly6 i0 i1 ?_
        refine w_iload_n (pc' := 58) dX10_isGood_57 rfl rfl ?_
        refine w_iald (pc' := 59) dX10_isGood_58 rfl gl1 j0 j1 ?_
        -- at 59: .bipush 7
        rw [x2]
        refine w_bipush (pc' := 61) dX10_isGood_59 rfl (by decide +kernel) (by decide) ?_
        refine w_iand (pc' := 62) dX10_isGood_61 rfl ?_
        -- at 62: .invokevirtual 79
        rw [bAnd_7]
        have e8 : 8 * ((T - 1) / 8) + (T - 1) % 8 + 1 = T := by omega
        refine w_callV4 (pc' := 65) (mc := 0) (ms := 0) dX10_isGood_62 rfl tX10_fits q988 rfl rfl qs30 q986 hO rfl (Nat.le_of_ble_eq_true rfl) (Nat.le_of_ble_eq_true rfl) ?_
        refine c_X10_fits hS hK hF hf eH eW hb (by omega) (by omega) ⟨by omega, by omega⟩ ⟨by omega, by omega⟩ (fun y => w_p1 ?_) (fun y => w_p1 ?_)
        · rw [e8] at y
          refine w_if_eq (pc' := 68) (tgt := 72) dX10_isGood_65 rfl rfl (fun h_ => False.elim (by first | omega | (simp (decide := true) only [au_1, nu_2, au_lt, nu_lt, aw_e, nw_e, au_s, au_n, nu_s, nu_n, au_au, nu_nu, au_nu] at h_; omega))) (fun h_ => ?_)
          exact yes (fun _ => y)
        · rw [e8] at y
          have bad : ¬ ∀ k, 0 ≤ k → k < 64 → k / 8 < σ.2 35 f → k % 8 < σ.2 36 f → 0 < σ.2 37 (64 * f + k) → mlB σ f (fun _ => 0) k (σ.2 37 (64 * f + k)) := by
            intro z
            have := z (8 * i + j) (by omega) (by omega) (by omega) (by omega) (by rw [hT]; exact hgt)
            rw [hT] at this
            exact y this
          refine w_if_eq (pc' := 68) (tgt := 72) dX10_isGood_65 rfl rfl (fun h_ => ?_) (fun h_ => False.elim (by first | omega | (simp (decide := true) only [au_1, nu_2, au_lt, nu_lt, aw_e, nw_e, au_s, au_n, nu_s, nu_n, au_au, nu_nu, au_nu] at h_; omega)))
          refine w_iconst (pc' := 73) dX10_isGood_72 rfl (by decide) ?_
          refine w_ist1 (pc' := 74) dX10_isGood_73 rfl rfl ?_
          refine w_inc3 (pc' := 77) dX10_isGood_74 rfl rfl ⟨by first | omega | (simp (decide := true) only [au_1, nu_2, au_lt, nu_lt, aw_e, nw_e, au_s, au_n, nu_s, nu_n, au_au, nu_nu, au_nu]; omega), by first | omega | (simp (decide := true) only [au_1, nu_2, au_lt, nu_lt, aw_e, nw_e, au_s, au_n, nu_s, nu_n, au_au, nu_nu, au_nu]; omega)⟩ ?_
          refine w_goto (tgt := 14) dX10_isGood_77 rfl ?_
          -- at 14: .iload_n 3
          refine w_iload_n (pc' := 15) dX10_isGood_14 rfl rfl ?_
          refine w_aload_n (pc' := 16) dX10_isGood_15 rfl rfl ?_
          refine w_get 1 (pc' := 19) dX10_isGood_16 rfl fX10_26_8 hO rfl ?_
          -- at 19: .if_icmp .ge 61
          refine w_icmp_ge (pc' := 22) (tgt := 80) dX10_isGood_19 rfl rfl (fun q5 => ?_) (fun q5 => ?_)
          · refine w_inc2 (pc' := 83) dX10_isGood_80 rfl rfl ⟨by first | omega | (simp (decide := true) only [au_1, nu_2, au_lt, nu_lt, aw_e, nw_e, au_s, au_n, nu_s, nu_n, au_au, nu_nu, au_nu]; omega), by first | omega | (simp (decide := true) only [au_1, nu_2, au_lt, nu_lt, aw_e, nw_e, au_s, au_n, nu_s, nu_n, au_au, nu_nu, au_nu]; omega)⟩ ?_
            refine w_goto (tgt := 4) dX10_isGood_83 rfl ?_
            -- at 4: .iload_n 2
            exact fin _ _ (by omega) (by omega) bad
          · refine w_iload_n (pc' := 23) dX10_isGood_22 rfl rfl ?_
            -- at 23: .ifCond .eq 57
            refine w_if_eq (pc' := 26) (tgt := 80) dX10_isGood_23 rfl rfl (fun h_ => ?_) (fun h_ => False.elim (by first | omega | (simp (decide := true) only [au_1, nu_2, au_lt, nu_lt, aw_e, nw_e, au_s, au_n, nu_s, nu_n, au_au, nu_nu, au_nu] at h_; omega)))
            refine w_inc2 (pc' := 83) dX10_isGood_80 rfl rfl ⟨by first | omega | (simp (decide := true) only [au_1, nu_2, au_lt, nu_lt, aw_e, nw_e, au_s, au_n, nu_s, nu_n, au_au, nu_nu, au_nu]; omega), by first | omega | (simp (decide := true) only [au_1, nu_2, au_lt, nu_lt, aw_e, nw_e, au_s, au_n, nu_s, nu_n, au_au, nu_nu, au_nu]; omega)⟩ ?_
            refine w_goto (tgt := 4) dX10_isGood_83 rfl ?_
            -- at 4: .iload_n 2
            exact fin _ _ (by omega) (by omega) bad
end
