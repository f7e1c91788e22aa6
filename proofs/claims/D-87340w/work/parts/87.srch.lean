set_option maxRecDepth 10000
def sho (A : SA) : Int := if 0 < (A).2.2.1 then 1 else 0
def bes (A : SA) : Int := if 0 < (A).2.2.1 then (A).2.2.2.1 else 2147483647
/-- the boards that stand by -/
def fxt (σ : MS) (f : Int) (H W : Nat) (A : SA) (G : GH) : Prop := (∃ to, fbd G f 2 10 0 H W to ∧ (0 < (A).2.2.1 → ∀ i j : Int, 0 ≤ i → i < H → 0 ≤ j → j < W → to i j = lyB σ f (A).2.2.2.2.2 i j - 1)) ∧ (∃ wa, fbd G f 3 10 0 H W wa) ∧ (∃ on, fbd G f 4 11 3 H W on) ∧ ∃ g, G (25, f, 0) = some (xar 0 40 g) ∧ ∀ k, 0 ≤ k → k < 40 → g k = σ.2 39 (40 * f + k)
def flf (σ : MS) (f : Int) (l : Int → Int) (G : GH) : Prop := ∃ g, G (25, f, 1) = some (xar 0 40 g) ∧ ∀ k, 0 ≤ k → k < σ.1 5 → g k = l k
/-- a floor while it is searched -/
def fsS (σ : MS) (f : Int) (H W : Nat) (u ma : Int) (rg : Option Rl) (mo byc le : Int) (b l : Int → Int) (c o : Int) (A : SA) (G : GH) : Prop := off G u ma (A).2.1 rg ∧ Rkin σ G ∧ G (fO f) = some (xob 8 (fob f H W (sho A) (A).1 (A).2.2.1 mo (bes A) c le o byc (A).2.2.2.2.1)) ∧ fbd G f 0 10 0 H W (isB σ f) ∧ fbd G f 1 10 0 H W (fun i j => lyB σ f b i j - 1) ∧ fxt σ f H W A G ∧ flf σ f l G
theorem fsS_R {σ : MS} {f : Int} {H W : Nat} {u ma : Int} {rg : Option Rl} {mo byc le : Int} {b l : Int → Int} {c o : Int} {A : SA} {G : GH} (h : fsS σ f H W u ma rg mo byc le b l c o A G) : flR σ f H W b G := ⟨⟨_, _, _, _, h.1⟩, h.2.1, ⟨_, _, _, _, _, _, _, _, _, _, h.2.2.1⟩, h.2.2.2.1, h.2.2.2.2.1⟩
theorem fxt_fr {σ : MS} {f : Int} {H W : Nat} {A A' : SA} {G G' : GH} (e1 : (A').2.2.1 = (A).2.2.1) (e2 : (A').2.2.2.2.2 = (A).2.2.2.2.2) (h26 : ∀ n, 2 ≤ n → G' (26, f, n) = G (26, f, n)) (h27 : ∀ n i, 2 ≤ n → n < 8 → G' (27, 8 * f + n, i) = G (27, 8 * f + n, i)) (h25 : G' (25, f, 0) = G (25, f, 0)) (h : fxt σ f H W A G) : fxt σ f H W A' G' := by
  obtain ⟨⟨to, t1, t2⟩, ⟨wa, w1⟩, ⟨on, o1⟩, g, g1, g2⟩ := h
  refine ⟨⟨to, fbd_fr (h26 2 (by omega)) (fun i => h27 2 i (by omega) (by omega)) t1, ?_⟩, ⟨wa, fbd_fr (h26 3 (by omega)) (fun i => h27 3 i (by omega) (by omega)) w1⟩, ⟨on, fbd_fr (h26 4 (by omega)) (fun i => h27 4 i (by omega) (by omega)) o1⟩, g, h25.trans g1, g2⟩
  rw [e1, e2]
  exact t2
/-- what a search changes -/
def ffo (f : Int) (G G' : GH) : Prop := ∀ q : Rl, q ≠ oR → ¬ ((24 ≤ q.1 ∧ q.1 < 27) ∧ q.2.1 = f) → ¬ (q.1 = 27 ∧ 8 * f ≤ q.2.1 ∧ q.2.1 < 8 * f + 8) → G' q = G q
theorem ffo_t {f : Int} {G G1 G2 : GH} (h : ffo f G G1) (h' : ffo f G1 G2) : ffo f G G2 := fun q q1 q2 q3 => (h' q q1 q2 q3).trans (h q q1 q2 q3)
theorem ffo_r {f : Int} {G G1 : GH} (h : ffr f G G1) : ffo f G G1 := fun q _ q2 q3 => h q q2 q3
theorem ffo_o {f : Int} {G G1 : GH} (h : ∀ q, q ≠ oR → G1 q = G q) : ffo f G G1 := fun q q1 _ _ => h q q1
theorem Rkin_o {σ : MS} {f : Int} {G G' : GH} (h : ffo f G G') (hk : Rkin σ G) : Rkin σ G' := Rkin_fr2 (fun q hq => h q (fun z => by rw [z] at hq; simp only [] at hq; omega) (by omega) (by omega)) hk
def accJ (most byc : Int) (A : SA) : Prop := (0 ≤ (A).1 ∧ (A).1 ≤ 30000) ∧ (0 ≤ (A).2.1 ∧ (A).2.1 ≤ 600000) ∧ (0 ≤ (A).2.2.1 ∧ (A).2.2.1 ≤ most) ∧ ((A).2.2.1 = 0 ∧ (A).2.2.2.1 = -1 ∨ 0 < (A).2.2.1 ∧ 0 ≤ (A).2.2.2.1 ∧ (A).2.2.2.1 ≤ 64000) ∧ ((A).2.2.2.2.1 = 0 ∨ (A).2.2.2.2.1 = 1) ∧ (byc ≠ 0 → 0 < (A).2.2.1 → (A).2.2.1 + (A).2.2.2.1 ≤ 64001)
theorem lyB_set {σ : MS} {f y x v i j : Int} {b : Int → Int} (ho : opB σ f (8 * y + x)) (hC : σ.2 36 f ≤ 8) (hx : 0 ≤ x ∧ x < 8) (hj : 0 ≤ j ∧ j < σ.2 36 f) (hi : 0 ≤ i ∧ i < σ.2 35 f) : lyB σ f (iset b (8 * y + x) v) i j = if i = y ∧ j = x then v else lyB σ f b i j := by
  have hh : (0 ≤ i ∧ i < σ.2 35 f) ∧ 0 ≤ j ∧ j < σ.2 36 f := ⟨hi, hj⟩
  unfold lyB
  rw [if_pos hh, if_pos hh]
  by_cases e : i = y ∧ j = x
  · have ht := ho.2
    rw [← Int.add_assoc] at ht
    rw [if_pos e, e.1, e.2, ht, if_neg (by decide), if_neg (by decide), iset_s]
  · rw [if_neg e, iset_n (by omega)]
section
variable {d : Nat} {K : Option XV → GH → Prop} {G : GH} {bc bs : Nat} {σ : MS} {f : Int} {H W : Nat} {b l : Int → Int} {u ma : Int} {rg : Option Rl} {mo most byc le c o : Int} {A : SA}
theorem c_X10_ends (hS : fsS σ f H W u ma rg mo byc le b l c o A G) (hA : accJ most byc A) (hmo : ∀ x, 0 ≤ x → (byc ≠ 0 → x ≤ 64001) → (x = mo ↔ x = most)) (h1 : endA most A → K (some (xI 1)) G) (h0 : ¬ endA most A → K (some (xI 0)) G) : tvW mX10_ends d K 0 [some (xR (fO f))] [] G bc bs := by
  have hO := hS.2.2.1
  obtain ⟨-, -, a3, a4, a5, a6⟩ := hA
  have hm := hmo (A).2.2.1 a3.1 (fun q => by have := a6 q; omega)
  unfold endA at h1 h0
  refine w_aload_n (pc' := 1) dX10_ends_0 rfl rfl ?_
  refine w_get 18 (pc' := 4) dX10_ends_1 rfl fX10_104_8 hO rfl ?_
  -- at 4: .ifCond .ne 14
  refine w_if_ne (pc' := 7) (tgt := 18) dX10_ends_4 rfl rfl (fun q => ?_) (fun q => ?_)
  · refine w_iconst (pc' := 19) dX10_ends_18 rfl (by decide) ?_
    refine w_goto (tgt := 23) dX10_ends_19 rfl ?_
    -- at 23: .ireturn
    refine w_zreturn dX10_ends_23 rfl (by first | exact Or.inl rfl | exact Or.inr rfl | omega) ?_
    exact h1 (Or.inl (by omega))
  · refine w_aload_n (pc' := 8) dX10_ends_7 rfl rfl ?_
    refine w_get 11 (pc' := 11) dX10_ends_8 rfl fX10_92_8 hO rfl ?_
    refine w_aload_n (pc' := 12) dX10_ends_11 rfl rfl ?_
    refine w_get 12 (pc' := 15) dX10_ends_12 rfl fX10_124_8 hO rfl ?_
    -- at 15: .if_icmp .ne 7
    refine w_icmp_ne (pc' := 18) (tgt := 22) dX10_ends_15 rfl rfl (fun q2 => ?_) (fun q2 => ?_)
    · refine w_iconst (pc' := 23) dX10_ends_22 rfl (by decide) ?_
      -- at 23: .ireturn
      refine w_zreturn dX10_ends_23 rfl (by first | exact Or.inl rfl | exact Or.inr rfl | omega) ?_
      exact h0 (fun z => z.elim (fun y => by omega) (fun y => q2 (hm.mpr y)))
    · refine w_iconst (pc' := 19) dX10_ends_18 rfl (by decide) ?_
      refine w_goto (tgt := 23) dX10_ends_19 rfl ?_
      -- at 23: .ireturn
      refine w_zreturn dX10_ends_23 rfl (by first | exact Or.inl rfl | exact Or.inr rfl | omega) ?_
      exact h1 (Or.inr (hm.mp q2))
theorem c_X10_keep (hS : fsS σ f H W u ma rg mo byc le b l c o A G) (hA : accJ most byc A) (hE : ¬ endA most A) (hm : most ≤ 1000000) (hH : 1 ≤ H ∧ H ≤ 8) (hW : 1 ≤ W ∧ W ≤ 8) (hc : 0 ≤ c ∧ c ≤ 64000) (hp : byc ≠ 0 → 0 < (A).2.2.1 → c < (A).2.2.2.1) (h : ∀ G', ffo f G G' → fsS σ f H W u ma rg mo byc le b l c o (kpA b c A) G' → accJ most byc (kpA b c A) → K none G') : tvW mX10_keep (d + 1) K 0 [some (xR (fO f)), none] [] G bc bs := by
  obtain ⟨hof, hkin, hO, h0, h1, ⟨⟨to, t1, -⟩, hwa, hon, hsk⟩, hlf⟩ := hS
  obtain ⟨a1, a2, a3, a4, a5, a6⟩ := hA
  have e2 : (A).2.2.1 < most := by
    have : (A).2.2.1 ≠ most := fun q => hE (Or.inr q)
    omega
  have t16 := h1.1
  have t26 := t1.1
  have hJ : accJ most byc (kpA b c A) := by
    refine ⟨a1, a2, ⟨?_, ?_⟩, Or.inr ⟨?_, hc⟩, a5, fun q _ => ?_⟩
    · show 0 ≤ (A).2.2.1 + 1
      omega
    · show (A).2.2.1 + 1 ≤ most
      omega
    · show 0 < (A).2.2.1 + 1
      omega
    · show (A).2.2.1 + 1 + c ≤ 64001
      have := a6 q
      have := hp q
      omega
  refine w_aload_n (pc' := 1) dX10_keep_0 rfl rfl ?_
  refine w_dup (pc' := 2) dX10_keep_1 rfl rfl ?_
  refine w_get 11 (pc' := 5) dX10_keep_2 rfl fX10_92_8 hO rfl ?_
  refine w_iconst (pc' := 6) dX10_keep_5 rfl (by decide) ?_
  refine w_iadd (pc' := 7) dX10_keep_6 rfl ⟨by first | omega | (simp (decide := true) only [au_1, nu_2, au_lt, nu_lt, aw_e, nw_e, au_s, au_n, nu_s, nu_n, au_au, nu_nu, au_nu]; omega), by first | omega | (simp (decide := true) only [au_1, nu_2, au_lt, nu_lt, aw_e, nw_e, au_s, au_n, nu_s, nu_n, au_au, nu_nu, au_nu]; omega)⟩ ?_
  refine w_put 11 (pc' := 10) dX10_keep_7 rfl pX10_92_8 (by decide) hO (Nat.le_of_ble_eq_true rfl) trivial ?_
  -- at 10: .aload_n 0
  refine w_upd (fun G1 a1' f1 => ?_)
  refine w_aload_n (pc' := 11) dX10_keep_10 rfl rfl ?_
  refine w_aload_n (pc' := 12) dX10_keep_11 rfl rfl ?_
  refine w_get 14 (pc' := 15) dX10_keep_12 rfl fX10_95_8 a1' rfl ?_
  refine w_put 13 (pc' := 18) dX10_keep_15 rfl pX10_101_8 (by decide) a1' (Nat.le_of_ble_eq_true rfl) trivial ?_
  -- at 18: .aload_n 0
  refine w_upd (fun G2 a2' f2 => ?_)
  refine w_aload_n (pc' := 19) dX10_keep_18 rfl rfl ?_
  refine w_iconst (pc' := 20) dX10_keep_19 rfl (by decide) ?_
  refine w_put 9 (pc' := 23) dX10_keep_20 rfl pX10_85_8 (by decide) a2' (Nat.le_of_ble_eq_true rfl) (Or.inr rfl) ?_
  -- at 23: .iconst 0
  refine w_upd (fun G3 a3' f3 => ?_)
  have fr3 : ffr f G G3 := ffr_t (ffr_s (by omega) f1) (ffr_t (ffr_s (by omega) f2) (ffr_s (by omega) f3))
  have ne3 : ∀ q : Rl, q ≠ fO f → G3 q = G q := fun q hq => by rw [f3 q hq, f2 q hq, f1 q hq]
  have t16 := (ne3 _ (rl_ne (by omega))).trans t16
  have t26 := (ne3 _ (rl_ne (by omega))).trans t26
  have hst : ∃ S : Int → GH → Prop, S = fun i G4 => (∀ q : Rl, ¬ (q.1 = 27 ∧ q.2.1 = 8 * f + 2) → G4 q = G3 q) ∧ ∀ y : Int, 0 ≤ y → y < H → ∃ g, G4 (27, 8 * f + 2, y) = some (xar 0 W g) ∧ (y < i → ∀ x : Int, 0 ≤ x → x < W → g x = lyB σ f b y x - 1) := ⟨_, rfl⟩
  obtain ⟨S, hS⟩ := hst
  refine w_iconst (pc' := 24) dX10_keep_23 rfl (by decide) ?_
  refine w_ist1 (pc' := 25) dX10_keep_24 rfl rfl ?_
  -- at 25: .iload_n 1
  refine up (T := fun i => 0 ≤ i → ∀ G4 : GH, S i G4 → tvW mX10_keep (d + 1) K 25 [some (xR (fO f)), some (xI i)] [] G4 bc bs) (H : Int) (by omega) ?_ ?_ (Int.le_refl _) G3 ?_
  · intro _ G4 s
    rw [hS] at s
    obtain ⟨s1, s2⟩ := s
    have hO4 := (s1 (fO f) (by simp only []; omega)).trans a3'
    refine w_iload_n (pc' := 26) dX10_keep_25 rfl rfl ?_
    refine w_aload_n (pc' := 27) dX10_keep_26 rfl rfl ?_
    refine w_get 0 (pc' := 30) dX10_keep_27 rfl fX10_22_8 hO4 rfl ?_
    -- at 30: .if_icmp .ge 30
    refine w_icmp_ge (pc' := 33) (tgt := 60) dX10_keep_30 rfl rfl (fun h_ => ?_) (fun h_ => False.elim (by first | omega | (simp (decide := true) only [au_1, nu_2, au_lt, nu_lt, aw_e, nw_e, au_s, au_n, nu_s, nu_n, au_au, nu_nu, au_nu] at h_; omega)))
    refine w_return dX10_keep_60 rfl ?_
    have ne4 : ∀ q : Rl, q ≠ fO f → ¬ (q.1 = 27 ∧ q.2.1 = 8 * f + 2) → G4 q = G q := fun q q1 q2 => (s1 q q2).trans (ne3 q q1)
    have fr4 : ffo f G G4 := ffo_r (ffr_t fr3 (fun q q1 q2 => s1 q (by omega)))
    refine h G4 fr4 ⟨(ne4 oR (rl_ne (by omega)) (by simp only []; omega)).trans hof, Rkin_o fr4 hkin, ?_, fbd_fr (ne4 _ (rl_ne (by omega)) (by simp only []; omega)) (fun i => ne4 _ (rl_ne (by omega)) (by simp only []; omega)) h0, fbd_fr (ne4 _ (rl_ne (by omega)) (by simp only []; omega)) (fun i => ne4 _ (rl_ne (by omega)) (by simp only []; omega)) h1, ⟨⟨fun i j => lyB σ f b i j - 1, ⟨(ne4 _ (rl_ne (by omega)) (by simp only []; omega)).trans t1.1, fun y y0 y1 => ?_⟩, fun _ _ _ _ _ _ _ => rfl⟩, ?_, ?_, ?_⟩, ?_⟩ hJ
    · rw [hO4]
      have x1 : sho (kpA b c A) = 1 := if_pos (show 0 < (A).2.2.1 + 1 by omega)
      have x2 : bes (kpA b c A) = c := if_pos (show 0 < (A).2.2.1 + 1 by omega)
      rw [x1, x2]
      rfl
    · obtain ⟨g, g1, g2⟩ := s2 y y0 y1
      exact ⟨g, g1, g2 y1⟩
    · obtain ⟨wa, w1⟩ := hwa
      exact ⟨wa, fbd_fr (ne4 _ (rl_ne (by omega)) (by simp only []; omega)) (fun i => ne4 _ (rl_ne (by omega)) (by simp only []; omega)) w1⟩
    · obtain ⟨on, o1⟩ := hon
      exact ⟨on, fbd_fr (ne4 _ (rl_ne (by omega)) (by simp only []; omega)) (fun i => ne4 _ (rl_ne (by omega)) (by simp only []; omega)) o1⟩
    · obtain ⟨g, g1, g2⟩ := hsk
      exact ⟨g, (ne4 _ (rl_ne (by omega)) (by simp only []; omega)).trans g1, g2⟩
    · obtain ⟨g, g1, g2⟩ := hlf
      exact ⟨g, (ne4 _ (rl_ne (by omega)) (by simp only []; omega)).trans g1, g2⟩
  · intro i i0 i1 ih _ G4 s
    rw [hS] at s
    obtain ⟨s1, s2⟩ := s
    have hO4 := (s1 (fO f) (by simp only []; omega)).trans a3'
    have p16 := (s1 (26, f, 1) (by simp only []; omega)).trans t16
    have p26 := (s1 (26, f, 2) (by simp only []; omega)).trans t26
    obtain ⟨gl, gl1, gl2⟩ := h1.2 i i0 i1
    have gl1 := ((s1 (27, 8 * f + 1, i) (by simp only []; omega)).trans (ne3 _ (rl_ne (by omega)))).trans gl1
    obtain ⟨gt, gt1, -⟩ := s2 i i0 i1
    refine w_iload_n (pc' := 26) dX10_keep_25 rfl rfl ?_
    refine w_aload_n (pc' := 27) dX10_keep_26 rfl rfl ?_
    refine w_get 0 (pc' := 30) dX10_keep_27 rfl fX10_22_8 hO4 rfl ?_
    -- at 30: .if_icmp .ge 30
    refine w_icmp_ge (pc' := 33) (tgt := 60) dX10_keep_30 rfl rfl (fun h_ => False.elim (by first | omega | (simp (decide := true) only [au_1, nu_2, au_lt, nu_lt, aw_e, nw_e, au_s, au_n, nu_s, nu_n, au_au, nu_nu, au_nu] at h_; omega))) (fun h_ => ?_)
    refine w_aload_n (pc' := 34) dX10_keep_33 rfl rfl ?_
    refine w_get 5 (pc' := 37) dX10_keep_34 rfl fX10_34_8 hO4 rfl ?_
    refine w_iload_n (pc' := 38) dX10_keep_37 rfl rfl ?_
    refine w_aaldM (pc' := 39) dX10_keep_38 rfl p16 i0 i1 ?_
    refine w_iconst (pc' := 40) dX10_keep_39 rfl (by decide) ?_
    refine w_aload_n (pc' := 41) dX10_keep_40 rfl rfl ?_
    refine w_get 6 (pc' := 44) dX10_keep_41 rfl fX10_37_8 hO4 rfl ?_
    refine w_iload_n (pc' := 45) dX10_keep_44 rfl rfl ?_
    refine w_aaldM (pc' := 46) dX10_keep_45 rfl p26 i0 i1 ?_
    refine w_iconst (pc' := 47) dX10_keep_46 rfl (by decide) ?_
    refine w_aload_n (pc' := 48) dX10_keep_47 rfl rfl ?_
    refine w_get 1 (pc' := 51) dX10_keep_48 rfl fX10_26_8 hO4 rfl ?_
    -- at 51: .invokestatic 137
    refine w_acopyI (n0 := W) (n1 := W) (pc' := 54) dX10_keep_51 rfl q1003 (Or.inl rfl) gl1 gt1 (by omega) (by omega) (by omega) (by omega) (by omega) (Nat.le_of_ble_eq_true rfl) ?_
    refine w_upd (fun G5 a5' f5 => ?_)
    refine w_inc1 (pc' := 57) dX10_keep_54 rfl rfl ⟨by first | omega | (simp (decide := true) only [au_1, nu_2, au_lt, nu_lt, aw_e, nw_e, au_s, au_n, nu_s, nu_n, au_au, nu_nu, au_nu]; omega), by first | omega | (simp (decide := true) only [au_1, nu_2, au_lt, nu_lt, aw_e, nw_e, au_s, au_n, nu_s, nu_n, au_au, nu_nu, au_nu]; omega)⟩ ?_
    refine w_goto (tgt := 25) dX10_keep_57 rfl ?_
    -- at 25: .iload_n 1
    refine ih (by omega) G5 ?_
    rw [hS]
    refine ⟨fun q hq => (f5 q (fun z => hq (by rw [z]; exact ⟨rfl, rfl⟩))).trans (s1 q hq), fun y y0 y1 => ?_⟩
    by_cases e : y = i
    · rw [e]
      refine ⟨_, a5', fun _ x x0 x1 => ?_⟩
      unfold icp
      rw [if_pos (by omega), show (0 : Int) + (x - 0) = x by omega]
      exact gl2 x x0 x1
    · obtain ⟨g, g1, g2⟩ := s2 y y0 y1
      exact ⟨g, (f5 _ (rl_ne (by omega))).trans g1, fun z => g2 (by omega)⟩
  · rw [hS]
    refine ⟨fun _ _ => rfl, fun y y0 y1 => ?_⟩
    obtain ⟨g, g1, -⟩ := t1.2 y y0 y1
    exact ⟨g, (ne3 _ (rl_ne (by omega))).trans g1, fun z => by omega⟩
end
