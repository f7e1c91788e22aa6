set_option maxRecDepth 10000
abbrev oR : Rl := (2, 0, 0)
abbrev kO (k : Int) : Rl := (12, k, 0)
abbrev kC (k : Int) : Rl := (13, k, 0)
/-- the office's fields -/
def off (G : GH) (cm rm md : Int) (rg : Option Rl) : Prop := G oR = some (xob 0 [xR (lO (-1)), xR (lO (-2)), xR (lO (-3)), xR (lO (-4)), xR (5, 0, 0), xI cm, xI rm, xI md, xO rg, xR (6, 0, 0), xR (6, 1, 0), xR (6, 2, 0), xR (6, 3, 0), xR (9, 0, 0), xR (9, 1, 0)])
/-- the kinds -/
def Rkin (σ : MS) (G : GH) : Prop := lst G (-1) (σ.1 5) (fun k => some (kO k)) ∧ ∀ k, 0 ≤ k → k < σ.1 5 → tle G (kO k) (kC k) (σ.2 0 k) (σ.2 1 k) (σ.2 2 k) (σ.2 3 k) (σ.2 4 k)
theorem tle_fr {G G' : GH} {r c : Rl} {E t cst mir nm : Int} (h1 : G' r = G r) (h2 : G' c = G c) (h : tle G r c E t cst mir nm) : tle G' r c E t cst mir nm := by
  obtain ⟨a, g, b, c'⟩ := h
  exact ⟨h1.trans a, g, h2.trans b, c'⟩
theorem Rkin_fr {σ : MS} {G G' : GH} (hf : ∀ q : Rl, (q.1 = 12 ∨ q.1 = 13 ∨ (q.1 = 30 ∨ q.1 = 31) ∧ q.2.1 = -1) → G' q = G q) (h : Rkin σ G) : Rkin σ G' := ⟨lst_of_fr (fun q q1 q2 => hf q (Or.inr (Or.inr ⟨q1, q2⟩))) h.1, fun k k0 k1 => tle_fr (hf _ (Or.inl rfl)) (hf _ (Or.inr (Or.inl rfl))) (h.2 k k0 k1)⟩
def upd2 (f : Int → Int → Int) (y x v : Int) : Int → Int → Int := fun i j => if i = y ∧ j = x then v else f i j
theorem bar_st {G G' : GH} {t ty : Nat} {b y x v i : Int} {W : Nat} {f : Int → Int → Int} {g : Int → Int} (hb : bar G t ty b i W (f i)) (hg : G (t, b, y) = some (xar ty W g)) (h1 : G' (t, b, y) = some (xar ty W (iset g x v))) (hf : ∀ q, q ≠ ((t, b, y) : Rl) → G' q = G q) : bar G' t ty b i W (upd2 f y x v i) := by
  obtain ⟨g', e1, e2⟩ := hb
  by_cases e : i = y
  · subst e
    rw [hg] at e1
    cases e1
    refine ⟨_, h1, fun j j0 j1 => ?_⟩
    unfold iset upd2
    by_cases z : j = x
    · rw [if_pos z, if_pos ⟨rfl, z⟩]
    · rw [if_neg z, if_neg (fun q => z q.2)]
      exact e2 j j0 j1
  · refine ⟨g', (hf _ (rl_ne (by omega))).trans e1, fun j j0 j1 => ?_⟩
    unfold upd2
    rw [if_neg (fun q => e q.1)]
    exact e2 j j0 j1
theorem blo_k {G G' : GH} {b y x v : Int} {H W : Nat} {fk fm fs : Int → Int → Int} {g : Int → Int} (hb : blo G b H W fk fm fs) (hg : G (35, b, y) = some (xar 1 W g)) (h1 : G' (35, b, y) = some (xar 1 W (iset g x v))) (hf : ∀ q, q ≠ ((35, b, y) : Rl) → G' q = G q) : blo G' b H W (upd2 fk y x v) fm fs := by
  obtain ⟨e1, e2, e3, e4, e5⟩ := hb
  refine ⟨(hf _ (rl_ne (by omega))).trans e1, (hf _ (rl_ne (by omega))).trans e2, (hf _ (rl_ne (by omega))).trans e3, (hf _ (rl_ne (by omega))).trans e4, fun i i0 i1 => ?_⟩
  obtain ⟨x1, x2, x3⟩ := e5 i i0 i1
  exact ⟨bar_st x1 hg h1 hf, bar_e (hf _ (rl_ne (by omega))) x2, bar_e (hf _ (rl_ne (by omega))) x3⟩
theorem blo_m {G G' : GH} {b y x v : Int} {H W : Nat} {fk fm fs : Int → Int → Int} {g : Int → Int} (hb : blo G b H W fk fm fs) (hg : G (36, b, y) = some (xar 1 W g)) (h1 : G' (36, b, y) = some (xar 1 W (iset g x v))) (hf : ∀ q, q ≠ ((36, b, y) : Rl) → G' q = G q) : blo G' b H W fk (upd2 fm y x v) fs := by
  obtain ⟨e1, e2, e3, e4, e5⟩ := hb
  refine ⟨(hf _ (rl_ne (by omega))).trans e1, (hf _ (rl_ne (by omega))).trans e2, (hf _ (rl_ne (by omega))).trans e3, (hf _ (rl_ne (by omega))).trans e4, fun i i0 i1 => ?_⟩
  obtain ⟨x1, x2, x3⟩ := e5 i i0 i1
  exact ⟨bar_e (hf _ (rl_ne (by omega))) x1, bar_st x2 hg h1 hf, bar_e (hf _ (rl_ne (by omega))) x3⟩
theorem blo_s {G G' : GH} {b y x v : Int} {H W : Nat} {fk fm fs : Int → Int → Int} {g : Int → Int} (hb : blo G b H W fk fm fs) (hg : G (37, b, y) = some (xar 2 W g)) (h1 : G' (37, b, y) = some (xar 2 W (iset g x v))) (hf : ∀ q, q ≠ ((37, b, y) : Rl) → G' q = G q) : blo G' b H W fk fm (upd2 fs y x v) := by
  obtain ⟨e1, e2, e3, e4, e5⟩ := hb
  refine ⟨(hf _ (rl_ne (by omega))).trans e1, (hf _ (rl_ne (by omega))).trans e2, (hf _ (rl_ne (by omega))).trans e3, (hf _ (rl_ne (by omega))).trans e4, fun i i0 i1 => ?_⟩
  obtain ⟨x1, x2, x3⟩ := e5 i i0 i1
  exact ⟨bar_e (hf _ (rl_ne (by omega))) x1, bar_e (hf _ (rl_ne (by omega))) x2, bar_st x3 hg h1 hf⟩
section
variable {M : tv_M} {d : Nat} {K : Option XV → GH → Prop} {pc pc' : Nat} {L : List (Option XV)} {st : List XV} {G0 G : GH} {bc bs : Nat} {σ : MS}
theorem w_aaldM {r : Rl} {t tg H : Nat} {b i : Int} (hd : decode M.1 pc = .ok (.aaload, 1)) (hp : pc + 1 = pc') (hG : G r = some (xra t H (mrow tg b H))) (h0 : 0 ≤ i) (h1 : i < H) (kk : tvW M d K pc' L (xR (tg, b, i) :: st) G bc bs) : tvW M d K pc L (xI i :: xR r :: st) G bc bs := by
  refine w_aald hd hp hG h0 h1 ?_
  rw [mrow_at h0 h1]
  exact kk
abbrev uO (r : Int) : Rl := (20, r, 0)
abbrev uA (r : Int) : Rl := (21, r, 0)
abbrev bid (r k : Int) : Int := -1 - (40 * r + k)
/-- a rule -/
def rul (G : GH) (r : Int) (H W : Nat) (B : Int → Int → Int → Int) : Prop := G (uO r) = some (xob 7 [xI H, xI W, xR (uA r)]) ∧ ∃ g, G (uA r) = some (xra 7 40 g) ∧ ∀ k : Int, 0 ≤ k → k < 40 → (g k = none ∧ (∀ (t : Nat) (z : Int), 33 ≤ t → t < 38 → G (t, bid r k, z) = none) ∧ ∀ i j : Int, 0 ≤ i → i < H → 0 ≤ j → j < W → B k i j = 0) ∨ (g k = some (33, bid r k, 0) ∧ ∃ fk fm fs, blo G (bid r k) H W fk fm fs ∧ ∀ i j : Int, 0 ≤ i → i < H → 0 ≤ j → j < W → fk i j = cdat (B k i j) 0 ∧ fm i j = cdat (B k i j) 1)
theorem c_X8_init {r : Int} {H W : Nat} {B : Int → Int → Int → Int} (hO : G (uO r) = some (xob 7 [xI 0, xI 0, xN])) (hA : G (uA r) = none) (hb : ∀ (t : Nat) (k z : Int), 33 ≤ t → t < 38 → 0 ≤ k → k < 40 → G (t, bid r k, z) = none) (hB : ∀ k i j : Int, 0 ≤ i → i < H → 0 ≤ j → j < W → B k i j = 0)
    (h : ∀ G', (∀ q, q ≠ uO r → q ≠ uA r → G' q = G q) → rul G' r H W B → K none G') : tvW mX8_init (d + 1) K 0 [some (xR (uO r)), some (xI H), some (xI W)] [] G 1 40 := by
  refine w_aload_n (pc' := 1) dX8_init_0 rfl rfl ?_
  -- at 1: .invokespecial 3
  refine w_objI (pc' := 4) dX8_init_1 rfl q615 q110 q111 (Nat.le_of_ble_eq_true rfl) ?_
  refine w_aload_n (pc' := 5) dX8_init_4 rfl rfl ?_
  refine w_bipush (pc' := 7) dX8_init_5 rfl (by decide +kernel) (by decide) ?_
  refine w_newr (t := 7) (uA r) 40 (pc' := 10) dX8_init_7 rfl (by decide) rfl q616 q617 rfl (by omega) (by assumption) (by first | assumption | simp) ?_
  -- at 10: .putfield 11
  refine w_upd (fun G1 a1 f1 => ?_)
  have hO := (f1 _ (rl_ne (by omega))).trans hO
  refine w_put 2 (pc' := 13) dX8_init_10 rfl pX8_11_7 (by decide) hO (Nat.le_of_ble_eq_true rfl) trivial ?_
  -- at 13: .aload_n 0
  refine w_upd (fun G2 a2 f2 => ?_)
  have a1 := (f2 _ (rl_ne (by omega))).trans a1
  refine w_aload_n (pc' := 14) dX8_init_13 rfl rfl ?_
  refine w_iload_n (pc' := 15) dX8_init_14 rfl rfl ?_
  refine w_put 0 (pc' := 18) dX8_init_15 rfl pX8_17_7 (by decide) a2 (Nat.le_of_ble_eq_true rfl) trivial ?_
  -- at 18: .aload_n 0
  refine w_upd (fun G3 a3 f3 => ?_)
  have a1 := (f3 _ (rl_ne (by omega))).trans a1
  refine w_aload_n (pc' := 19) dX8_init_18 rfl rfl ?_
  refine w_iload_n (pc' := 20) dX8_init_19 rfl rfl ?_
  refine w_put 1 (pc' := 23) dX8_init_20 rfl pX8_21_7 (by decide) a3 (Nat.le_of_ble_eq_true rfl) trivial ?_
  -- at 23: .return_
  refine w_upd (fun G4 a4 f4 => ?_)
  have a1 := (f4 _ (rl_ne (by omega))).trans a1
  refine w_return dX8_init_23 rfl ?_
  refine h G4 (fun q q1 q2 => by rw [f4 q q1, f3 q q1, f2 q q1, f1 q q2]) ⟨a4, _, a1, fun k k0 k1 => Or.inl ⟨rfl, fun t z t0 t1 => ?_, fun i j i0 i1 j0 j1 => hB k i j i0 i1 j0 j1⟩⟩
  rw [f4 _ (rl_ne (by omega)), f3 _ (rl_ne (by omega)), f2 _ (rl_ne (by omega)), f1 _ (rl_ne (by omega))]
  exact hb t k z t0 t1 k0 k1
/-- what a rule's block may change -/
def ufr (r k : Int) (G G' : GH) : Prop := ∀ q : Rl, q ≠ uA r → ¬ ((33 ≤ q.1 ∧ q.1 < 38) ∧ q.2.1 = bid r k) → G' q = G q
theorem c_X8_block {r k : Int} {H W : Nat} {B : Int → Int → Int → Int} (hU : rul G r H W B) (hk : 0 ≤ k ∧ k < 40) (hr : 0 ≤ r) (hH : H ≤ 4) (hW : W ≤ 4)
    (h : ∀ G', ufr r k G G' → rul G' r H W B → (∃ fk fm fs, blo G' (bid r k) H W fk fm fs ∧ ∀ i j : Int, 0 ≤ i → i < H → 0 ≤ j → j < W → fk i j = cdat (B k i j) 0 ∧ fm i j = cdat (B k i j) 1) → K (some (xR (33, bid r k, 0))) G') : tvW mX8_block (d + 2) K 0 [some (xR (uO r)), some (xI k)] [] G 16 63 := by
  have hU0 := hU
  obtain ⟨hO, g, hA, hg⟩ := hU
  have fin : ∀ (bc bs : Nat) (G' : GH) (g' : Int → Option Rl), ufr r k G G' → rul G' r H W B → G' (uA r) = some (xra 7 40 g') → g' k = some (33, bid r k, 0) → (∃ fk fm fs, blo G' (bid r k) H W fk fm fs ∧ ∀ i j : Int, 0 ≤ i → i < H → 0 ≤ j → j < W → fk i j = cdat (B k i j) 0 ∧ fm i j = cdat (B k i j) 1) → tvW mX8_block (d + 2) K 30 [some (xR (uO r)), some (xI k)] [] G' bc bs := by
    intro bc bs G' g' h1 h2 h3 h4 h5
    refine w_aload_n (pc' := 31) dX8_block_30 rfl rfl ?_
    refine w_get 2 (pc' := 34) dX8_block_31 rfl fX8_11_7 h2.1 rfl ?_
    refine w_iload_n (pc' := 35) dX8_block_34 rfl rfl ?_
    refine w_aald (pc' := 36) dX8_block_35 rfl h3 (by omega) (by omega) ?_
    -- at 36: .areturn
    rw [h4]
    refine w_areturn dX8_block_36 rfl ?_
    exact h G' h1 h2 h5
  refine w_aload_n (pc' := 1) dX8_block_0 rfl rfl ?_
  refine w_get 2 (pc' := 4) dX8_block_1 rfl fX8_11_7 hO rfl ?_
  refine w_iload_n (pc' := 5) dX8_block_4 rfl rfl ?_
  refine w_aald (pc' := 6) dX8_block_5 rfl hA (by omega) (by omega) ?_
  -- at 6: .ifnonnull 24
  rcases hg k hk.1 hk.2 with ⟨q1, q2, q3⟩ | ⟨q1, fk, fm, fs, q2, q3⟩
  · rw [q1]
    refine w_ifnonnull (pc' := 9) (tgt := 30) dX8_block_6 rfl rfl (fun h_ => False.elim (h_ rfl)) (fun h_ => ?_)
    have hn := q2 33 0 (by omega) (by omega)
    refine w_aload_n (pc' := 10) dX8_block_9 rfl rfl ?_
    refine w_get 2 (pc' := 13) dX8_block_10 rfl fX8_11_7 hO rfl ?_
    refine w_iload_n (pc' := 14) dX8_block_13 rfl rfl ?_
    refine w_new (N := 3) (33, bid r k, 0) (pc' := 17) dX8_block_14 rfl nX8_9 (by assumption) (by first | assumption | simp) ?_
    -- at 17: .dup
    refine w_upd (fun G1 a1 f1 => ?_)
    have hO := (f1 _ (rl_ne (by omega))).trans hO
    have hA := (f1 _ (rl_ne (by omega))).trans hA
    refine w_dup (pc' := 18) dX8_block_17 rfl rfl ?_
    refine w_aload_n (pc' := 19) dX8_block_18 rfl rfl ?_
    refine w_get 0 (pc' := 22) dX8_block_19 rfl fX8_17_7 hO rfl ?_
    refine w_aload_n (pc' := 23) dX8_block_22 rfl rfl ?_
    refine w_get 1 (pc' := 26) dX8_block_23 rfl fX8_21_7 hO rfl ?_
    -- at 26: .invokespecial 24
    have hHW : H * W ≤ 16 := Nat.mul_le_mul hH hW
    refine w_callI2 (pc' := 29) (mc := 15) (ms := 60) dX8_block_26 rfl tX7_init rfl rfl q552 (Or.inl q642) rfl (Nat.le_of_ble_eq_true rfl) (Nat.le_of_ble_eq_true rfl) ?_
    refine c_X7_init (by omega) (by omega) (by omega) (by omega) a1 (fun i => (f1 _ (rl_ne (by omega))).trans (q2 34 i (by omega) (by omega))) (fun i => (f1 _ (rl_ne (by omega))).trans (q2 35 i (by omega) (by omega))) (fun i => (f1 _ (rl_ne (by omega))).trans (q2 36 i (by omega) (by omega))) (fun i => (f1 _ (rl_ne (by omega))).trans (q2 37 i (by omega) (by omega))) (fun G2 f2 b2 => w_p0 ?_)
    have hO := (f2 _ (by simp only []; omega)).trans hO
    have hA := (f2 _ (by simp only []; omega)).trans hA
    refine w_aast (ci := 6) (pc' := 30) dX8_block_29 rfl hA b2.1 ⟨_, rfl, Or.inl rfl⟩ hk.1 (by omega) ?_
    refine w_upd (fun G3 a3 f3 => ?_)
    have hO := (f3 _ (rl_ne (by omega))).trans hO
    have hb3 : blo G3 (bid r k) H W (fun _ _ => -1) (fun _ _ => 0) (fun _ _ => 0) := blo_fr (fun q q1 q2 => f3 q (fun z => by rw [z] at q1; simp only [] at q1; omega)) b2
    have hcell : ∃ fk fm fs, blo G3 (bid r k) H W fk fm fs ∧ ∀ i j : Int, 0 ≤ i → i < H → 0 ≤ j → j < W → fk i j = cdat (B k i j) 0 ∧ fm i j = cdat (B k i j) 1 := ⟨_, _, _, hb3, fun i j i0 i1 j0 j1 => by rw [q3 i j i0 i1 j0 j1]; exact ⟨rfl, rfl⟩⟩
    have hfr : ufr r k G G3 := fun q z1 z2 => by rw [f3 q z1, f2 q z2, f1 q (fun z => z2 (by rw [z]; exact ⟨by simp only []; omega, rfl⟩))]
    refine fin _ _ G3 _ hfr ⟨hO, _, a3, fun k' k0 k1 => ?_⟩ a3 (if_pos rfl) hcell
    by_cases e : k' = k
    · subst e
      exact Or.inr ⟨if_pos rfl, hcell⟩
    · have hfk : ∀ q : Rl, (33 ≤ q.1 ∧ q.1 < 38) → q.2.1 = bid r k' → G3 q = G q := fun q z1 z2 => hfr q (fun z => by rw [z] at z1; simp only [] at z1; omega) (fun z => by have z3 : q.2.1 = -1 - (40 * r + k) := z.2; have z4 : q.2.1 = -1 - (40 * r + k') := z2; omega)
      have e2 : ∀ x, rset g k x k' = g k' := fun x => if_neg e
      rw [e2]
      rcases hg k' k0 k1 with ⟨p1, p2, p3⟩ | ⟨p1, fk, fm, fs, p2, p3⟩
      · exact Or.inl ⟨p1, fun t z t0 t1 => (hfk _ ⟨t0, t1⟩ rfl).trans (p2 t z t0 t1), p3⟩
      · exact Or.inr ⟨p1, fk, fm, fs, blo_fr hfk p2, p3⟩
  · rw [q1]
    refine w_ifnonnull (pc' := 9) (tgt := 30) dX8_block_6 rfl rfl (fun h_ => ?_) (fun h_ => False.elim (nomatch h_))
    exact fin _ _ G g (fun _ _ _ => rfl) hU0 hA q1 ⟨fk, fm, fs, q2, q3⟩
end
