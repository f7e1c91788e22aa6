set_option maxRecDepth 10000
section
variable {M : tv_M} {d : Nat} {K : Option XV → GH → Prop} {pc pc' : Nat} {L : List (Option XV)} {st : List XV} {G0 G : GH} {bc bs : Nat} {σ : MS}
theorem w_updM {r : Rl} {e : XE} {tag ti B A : Nat} {a : Int} (hr : r.1 ≠ tag) (k : ∀ G' : GH, G' r = some e → (∀ i : Int, 0 ≤ i → i < A → G' (tag, a, i) = some (xar ti B (fun _ => 0))) → (∀ q : Rl, q ≠ r → ¬ (q.1 = tag ∧ q.2.1 = a) → G' q = G q) → tvW M d K pc L st G' bc bs) : tvW M d K pc L st (gset (gmi G tag a ti B A) r e) bc bs := by
  refine k _ (gset_s _ _ _) ?_ ?_
  · intro i h0 h1
    rw [gset_n (fun z => hr (by rw [← z]))]
    unfold gmi
    rw [if_pos ⟨rfl, rfl, h0, h1⟩]
  · intro q h1 h2
    rw [gset_n h1]
    unfold gmi
    rw [if_neg (fun z => h2 ⟨z.1, z.2.1⟩)]
abbrev pO (p : Int) : Rl := (18, p, 0)
theorem c_X4_init {P : Rl} {a : Int} {f : Int → Option Rl} (hP : G P = some (xob 3 [xN])) (hPt : P.1 < 30) (ha : G (lO a) = none) (hF : ∀ j, G (lA a j) = none)
    (h : ∀ G', (∀ q : Rl, q ≠ P → ¬ ((q.1 = 30 ∨ q.1 = 31) ∧ q.2.1 = a) → G' q = G q) → G' P = some (xob 3 [xR (lO a)]) → lst G' a 0 f → K none G') : tvW mX4_init (d + 4) K 0 [some (xR P)] [] G 1 3 := by
  refine w_aload_n (pc' := 1) dX4_init_0 rfl rfl ?_
  -- at 1: .invokespecial 1
  refine w_objI (pc' := 4) dX4_init_1 rfl q360 q110 q111 (Nat.le_of_ble_eq_true rfl) ?_
  refine w_aload_n (pc' := 5) dX4_init_4 rfl rfl ?_
  refine w_new (N := 3) (lO a) (pc' := 8) dX4_init_5 rfl nX4_7 (by assumption) (by first | assumption | simp) ?_
  -- at 8: .dup
  refine w_upd (fun G1 a1 f1 => ?_)
  have hne : P ≠ lO a := ne_of hP ha
  have hP := (f1 _ hne).trans hP
  have hF : ∀ j, G1 (lA a j) = none := fun j => (f1 _ (rl_ne (by omega))).trans (hF j)
  refine w_dup (pc' := 9) dX4_init_8 rfl rfl ?_
  -- at 9: .invokespecial 9
  refine w_callI0 (pc' := 12) (mc := 0) (ms := 0) dX4_init_9 rfl tJ2_init rfl rfl q115 (Or.inl q362) rfl (Nat.le_of_ble_eq_true rfl) (Nat.le_of_ble_eq_true rfl) ?_
  refine c_J2_init (f := f) a1 hF (fun G2 f2 l2 => w_p0 ?_)
  have hP := (f2 P (by omega)).trans hP
  refine w_put 0 (pc' := 15) dX4_init_12 rfl pX4_10_3 (by decide) hP (Nat.le_of_ble_eq_true rfl) trivial ?_
  -- at 15: .return_
  refine w_upd (fun G3 a3 f3 => ?_)
  refine w_return dX4_init_15 rfl ?_
  refine h G3 (fun q h1 h2 => ?_) a3 ?_
  · rw [f3 q h1, f2 q h2, f1 q (fun z => h2 (by rw [z]; exact ⟨Or.inl rfl, rfl⟩))]
  · obtain ⟨h0, mc, j, c, e, hO, b1, b2, b3, b4⟩ := l2
    have x : ∀ t : Nat, 30 ≤ t → ∀ z : Int, ((t, a, z) : Rl) ≠ P := fun t ht z y => by rw [← y] at hPt; exact absurd hPt (by simp only []; omega)
    refine ⟨h0, mc, j, c, e, (f3 _ (x 30 (by omega) _)).trans hO, fun j' hj => (f3 _ (x 31 (by omega) _)).trans (b1 j' hj), b2, b3, ?_⟩
    rcases b4 with ⟨e1, g, hg, hf'⟩ | b4
    · exact Or.inl ⟨e1, g, (f3 _ (x 31 (by omega) _)).trans hg, hf'⟩
    · exact Or.inr b4
/-- a list is not touched by what lies elsewhere -/
theorem lst_of_fr {G G' : GH} {a n : Int} {f : Int → Option Rl} (hf : ∀ q : Rl, (q.1 = 30 ∨ q.1 = 31) → q.2.1 = a → G' q = G q) (h : lst G a n f) : lst G' a n f := by
  obtain ⟨h0, mc, j, c, e, hO, h1, h2, h3, h4⟩ := h
  refine ⟨h0, mc, j, c, e, (hf _ (Or.inl rfl) rfl).trans hO, fun j' hj => (hf _ (Or.inr rfl) rfl).trans (h1 j' hj), h2, h3, ?_⟩
  rcases h4 with ⟨e1, g, hg, hf'⟩ | h4
  · exact Or.inl ⟨e1, g, (hf _ (Or.inr rfl) rfl).trans hg, hf'⟩
  · exact Or.inr h4
abbrev cO (c : Int) : Rl := (32, c, 0)
theorem c_X5_init {P : Rl} {a b c : Int} {n : Nat} {f : Int → Option Rl} (hC : G (cO c) = some (xob 4 [xN, xN])) (hP : G P = some (xob 3 [xR (lO b)])) (hPt : P.1 < 30) (ha : G (lO a) = none) (hF : ∀ j, G (lA a j) = none) (hab : a ≠ b) (hl : lst G b n f) (hn : n ≤ 60) (hel : lel G n f 5) (hx : ∀ i : Int, 0 ≤ i → i < n → ∀ x : Rl, f i = some x → x.1 < 30)
    (h : ∀ G', (∀ q : Rl, q ≠ cO c → ¬ ((q.1 = 30 ∨ q.1 = 31) ∧ q.2.1 = a) → G' q = G q) → G' (cO c) = some (xob 4 [xR P, xR (lO a)]) → lst G' a n f → K none G') : tvW mX5_init (d + 5) K 0 [some (xR (cO c)), some (xR P)] [] G 2 63 := by
  refine w_aload_n (pc' := 1) dX5_init_0 rfl rfl ?_
  -- at 1: .invokespecial 1
  refine w_objI (pc' := 4) dX5_init_1 rfl q390 q110 q111 (Nat.le_of_ble_eq_true rfl) ?_
  refine w_aload_n (pc' := 5) dX5_init_4 rfl rfl ?_
  refine w_aload_n (pc' := 6) dX5_init_5 rfl rfl ?_
  refine w_put 0 (pc' := 9) dX5_init_6 rfl pX5_7_4 (by decide) hC (Nat.le_of_ble_eq_true rfl) trivial ?_
  -- at 9: .aload_n 0
  refine w_upd (fun G1 a1 f1 => ?_)
  have ha := (f1 _ (rl_ne (by omega))).trans ha
  have hP := (f1 P (fun z => by rw [z] at hPt; exact absurd hPt (by simp only []; omega))).trans hP
  have hF : ∀ j, G1 (lA a j) = none := fun j => (f1 _ (rl_ne (by omega))).trans (hF j)
  have hl := lst_of_fr (G' := G1) (fun q q1 _ => f1 q (fun z => by rw [z] at q1; simp only [] at q1; omega)) hl
  have hel1 : lel G1 n f 5 := by
    intro i i0 i1
    obtain ⟨x, fs, e1, e2, e3⟩ := hel i i0 i1
    have := hx i i0 i1 x e1
    exact ⟨x, fs, e1, e2, (f1 x (fun z => by rw [z] at this; exact absurd this (by simp only []; omega))).trans e3⟩
  refine w_aload_n (pc' := 10) dX5_init_9 rfl rfl ?_
  refine w_new (N := 3) (lO a) (pc' := 13) dX5_init_10 rfl nX5_13 (by assumption) (by first | assumption | simp) ?_
  -- at 13: .dup
  refine w_upd (fun G2 a2 f2 => ?_)
  have a1 := (f2 _ (rl_ne (by omega))).trans a1
  have hP := (f2 P (ne_of hP ha)).trans hP
  have hF : ∀ j, G2 (lA a j) = none := fun j => (f2 _ (rl_ne (by omega))).trans (hF j)
  have hl := lst_fr hab (lfr_o f2) hl
  have hel2 := lel_fr hel1 (lfr_o f2)
  refine w_dup (pc' := 14) dX5_init_13 rfl rfl ?_
  refine w_aload_n (pc' := 15) dX5_init_14 rfl rfl ?_
  refine w_get 0 (pc' := 18) dX5_init_15 rfl fX5_15_3 hP rfl ?_
  -- at 18: .invokespecial 21
  refine w_callI1 (pc' := 21) (mc := 1) (ms := 60) dX5_init_18 rfl tJ2_init_2 rfl rfl q393 (Or.inl q392) rfl (Nat.le_of_ble_eq_true rfl) (Nat.le_of_ble_eq_true rfl) ?_
  refine c_J2_init_2 (ci := 5) a2 hF hab hl hn ⟨_, rfl, Or.inr ⟨_, rfl, q1586⟩⟩ hel2 (fun G3 f3 l3 => w_p0 ?_)
  have a1 := (f3 (cO c) (by simp only []; omega)).trans a1
  refine w_put 1 (pc' := 24) dX5_init_21 rfl pX5_24_4 (by decide) a1 (Nat.le_of_ble_eq_true rfl) trivial ?_
  -- at 24: .return_
  refine w_upd (fun G4 a4 f4 => ?_)
  refine w_return dX5_init_24 rfl ?_
  refine h G4 (fun q h1 h2 => ?_) a4 (lst_of_fr (fun q q1 _ => f4 q (fun z => by rw [z] at q1; simp only [] at q1; omega)) l3)
  rw [f4 q h1, f3 q h2, f2 q (fun z => h2 (by rw [z]; exact ⟨Or.inl rfl, rfl⟩)), f1 q h1]
end
