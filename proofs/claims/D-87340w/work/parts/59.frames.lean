set_option maxRecDepth 10000
/-! what stays as it was -/
theorem row_e {G G' : GH} {q len off : Int} {C : Int → Int} (hf : ∀ t : Nat, 14 ≤ t → t < 18 → G' (t, q, 0) = G (t, q, 0)) (h : row G q len off C) : row G' q len off C := by
  obtain ⟨h1, n, fk, fm, fs, h2, h3, h4, h5, h6⟩ := h
  exact ⟨(hf 14 (by omega) (by omega)).trans h1, n, fk, fm, fs, h2, (hf 15 (by omega) (by omega)).trans h3, (hf 16 (by omega) (by omega)).trans h4, (hf 17 (by omega) (by omega)).trans h5, h6⟩
theorem Rrow_fr {σ : MS} {G G' : GH} (hf : ∀ q : Rl, (14 ≤ q.1 ∧ q.1 < 18) → 0 ≤ q.2.1 → q.2.1 < σ.1 9 → G' q = G q) (h : Rrow σ G) : Rrow σ G' := fun q q0 q1 => row_e (fun t t0 t1 => hf _ ⟨t0, t1⟩ q0 q1) (h q q0 q1)
theorem Rpat_fr {σ : MS} {G G' : GH} {pl : Int → Int} (h18 : ∀ p, 0 ≤ p → p < σ.1 12 → G' (pO p) = G (pO p)) (h2 : ∀ q : Rl, (q.1 = 30 ∨ q.1 = 31) → q.2.1 = -2 → G' q = G q) (hl : ∀ p, 0 ≤ p → p < σ.1 12 → ∀ q : Rl, (q.1 = 30 ∨ q.1 = 31) → q.2.1 = pl p → G' q = G q) (h : Rpat σ G pl) : Rpat σ G' pl :=
  ⟨lst_of_fr h2 h.1, fun p p0 p1 => ⟨(h18 p p0 p1).trans (h.2 p p0 p1).1, lst_of_fr (hl p p0 p1) (h.2 p p0 p1).2⟩⟩
theorem Rchg_fr {σ : MS} {G G' : GH} {cl : Int → Int} (h5 : G' (5, 0, 0) = G (5, 0, 0)) (h32 : ∀ t, 0 ≤ t → t < σ.1 16 → G' (cO (cl t)) = G (cO (cl t))) (hl : ∀ t, 0 ≤ t → t < σ.1 16 → ∀ q : Rl, (q.1 = 30 ∨ q.1 = 31) → q.2.1 = cl t → G' q = G q) (h : Rchg σ G cl) : Rchg σ G' cl := by
  obtain ⟨g, hg, h⟩ := h
  refine ⟨g, h5.trans hg, fun t t0 t1 => ?_⟩
  obtain ⟨a, b, c⟩ := h t t0 t1
  exact ⟨a, (h32 t t0 t1).trans b, lst_of_fr (hl t t0 t1) c⟩
theorem Rreg_fr {σ : MS} {G G' : GH} {rg : Option Rl} {b : Int} (hf : ∀ q : Rl, (33 ≤ q.1 ∧ q.1 < 38) → q.2.1 = b → G' q = G q) (h : Rreg σ G rg b) : Rreg σ G' rg b := by
  rcases h with h | ⟨h1, h2, H, W, fk, fm, fs, h3, h4, h5, h6⟩
  · exact Or.inl h
  · exact Or.inr ⟨h1, h2, H, W, fk, fm, fs, h3, h4, blo_fr hf h5, h6⟩
theorem rul_fr {G G' : GH} {r : Int} {H W : Nat} {B : Int → Int → Int → Int} (h20 : G' (uO r) = G (uO r)) (h21 : G' (uA r) = G (uA r)) (hb : ∀ k : Int, 0 ≤ k → k < 40 → ∀ q : Rl, (33 ≤ q.1 ∧ q.1 < 38) → q.2.1 = bid r k → G' q = G q) (h : rul G r H W B) : rul G' r H W B := by
  obtain ⟨hO, g, hA, hg⟩ := h
  refine ⟨h20.trans hO, g, h21.trans hA, fun k k0 k1 => ?_⟩
  rcases hg k k0 k1 with ⟨p1, p2, p3⟩ | ⟨p1, fk, fm, fs, p2, p3⟩
  · exact Or.inl ⟨p1, fun t z t0 t1 => (hb k k0 k1 _ ⟨t0, t1⟩ rfl).trans (p2 t z t0 t1), p3⟩
  · exact Or.inr ⟨p1, fk, fm, fs, blo_fr (hb k k0 k1) p2, p3⟩
theorem Rrul_fr {σ : MS} {G G' : GH} (hf : ∀ q : Rl, ((q.1 = 20 ∨ q.1 = 21) ∨ (33 ≤ q.1 ∧ q.1 < 38) ∧ q.2.1 < 0 ∨ (q.1 = 30 ∨ q.1 = 31) ∧ q.2.1 = -3) → G' q = G q) (h : Rrul σ G) : Rrul σ G' := by
  refine ⟨lst_of_fr (fun q q1 q2 => hf q (Or.inr (Or.inr ⟨q1, q2⟩))) h.1, fun r r0 r1 => ?_⟩
  obtain ⟨H, W, h1, h2, h3⟩ := h.2 r r0 r1
  exact ⟨H, W, h1, h2, rul_fr (hf _ (Or.inl (Or.inl rfl))) (hf _ (Or.inl (Or.inr rfl))) (fun k k0 k1 q q1 q2 => hf q (Or.inr (Or.inl ⟨q1, by have z : q.2.1 = -1 - (40 * r + k) := q2; omega⟩))) h3⟩
theorem fbd_fr {G G' : GH} {f n : Int} {t ty H W : Nat} {b : Int → Int → Int} (h26 : G' (26, f, n) = G (26, f, n)) (h27 : ∀ i, G' (27, 8 * f + n, i) = G (27, 8 * f + n, i)) (h : fbd G f n t ty H W b) : fbd G' f n t ty H W b := ⟨h26.trans h.1, fun i i0 i1 => bar_e (h27 i) (h.2 i i0 i1)⟩
theorem flo_fr {G G' : GH} {f : Int} {H W : Nat} {z : List Int} {is ly : Int → Int → Int} {sk lf : Int → Int} {to wa on : Int → Int → Int} (hf : ∀ q : Rl, ((24 ≤ q.1 ∧ q.1 < 27) ∧ q.2.1 = f ∨ q.1 = 27 ∧ q.2.1 / 8 = f) → G' q = G q) (h : flo G f H W z is ly sk lf to wa on) : flo G' f H W z is ly sk lf to wa on := by
  obtain ⟨⟨z0, z1, z2, z3, z4, z5, z6, z7, z8, z9, e, hO⟩, a0, a1, a2, a3, a4, b0, b1⟩ := h
  have h26 : ∀ n, G' (26, f, n) = G (26, f, n) := fun n => hf (26, f, n) (Or.inl ⟨⟨(by decide : 24 ≤ 26), (by decide : 26 < 27)⟩, rfl⟩)
  have h27 : ∀ n : Int, 0 ≤ n → n < 8 → ∀ i, G' (27, 8 * f + n, i) = G (27, 8 * f + n, i) := fun n n0 n1 i => hf (27, 8 * f + n, i) (Or.inr ⟨rfl, by show (8 * f + n) / 8 = f; omega⟩)
  exact ⟨⟨z0, z1, z2, z3, z4, z5, z6, z7, z8, z9, e, (hf (24, f, 0) (Or.inl ⟨⟨(by decide : 24 ≤ 24), (by decide : 24 < 27)⟩, rfl⟩)).trans hO⟩, fbd_fr (h26 0) (h27 0 (by omega) (by omega)) a0, fbd_fr (h26 1) (h27 1 (by omega) (by omega)) a1, fbd_fr (h26 2) (h27 2 (by omega) (by omega)) a2, fbd_fr (h26 3) (h27 3 (by omega) (by omega)) a3, fbd_fr (h26 4) (h27 4 (by omega) (by omega)) a4, (hf (25, f, 0) (Or.inl ⟨⟨(by decide : 24 ≤ 25), (by decide : 25 < 27)⟩, rfl⟩)).trans b0, (hf (25, f, 1) (Or.inl ⟨⟨(by decide : 24 ≤ 25), (by decide : 25 < 27)⟩, rfl⟩)).trans b1⟩
theorem Rflo_fr {σ : MS} {G G' : GH} (hf : ∀ q : Rl, ((24 ≤ q.1 ∧ q.1 < 28) ∨ (q.1 = 30 ∨ q.1 = 31) ∧ q.2.1 = -4) → G' q = G q) (h : Rflo σ G) : Rflo σ G' := by
  refine ⟨lst_of_fr (fun q q1 q2 => hf q (Or.inr ⟨q1, q2⟩)) h.1, fun f f0 f1 => ?_⟩
  obtain ⟨H, W, z, is, ly, sk, lf, to, wa, on, h1, h2, h3, h4⟩ := h.2 f f0 f1
  exact ⟨H, W, z, is, ly, sk, lf, to, wa, on, h1, h2, flo_fr (fun q hq => hf q (by omega)) h3, h4⟩
theorem Rscr_fr {G G' : GH} (hf : ∀ q : Rl, (6 ≤ q.1 ∧ q.1 < 10) → G' q = G q) (h : Rscr G) : Rscr G' := by
  obtain ⟨⟨a1, a2⟩, ⟨b1, b2⟩, ⟨c1, c2⟩, ⟨d1, d2⟩, ⟨e, e1⟩, ⟨f, f1⟩⟩ := h
  refine ⟨⟨(hf _ (by decide)).trans a1, fun i i0 i1 => ?_⟩, ⟨(hf _ (by decide)).trans b1, fun i i0 i1 => ?_⟩, ⟨(hf _ (by decide)).trans c1, fun i i0 i1 => ?_⟩, ⟨(hf _ (by decide)).trans d1, fun i i0 i1 => ?_⟩, ⟨e, (hf _ (by decide)).trans e1⟩, ⟨f, (hf _ (by decide)).trans f1⟩⟩
  · obtain ⟨g, hg⟩ := a2 i i0 i1; exact ⟨g, (hf _ (by simp only []; omega)).trans hg⟩
  · obtain ⟨g, hg⟩ := b2 i i0 i1; exact ⟨g, (hf _ (by simp only []; omega)).trans hg⟩
  · obtain ⟨g, hg⟩ := c2 i i0 i1; exact ⟨g, (hf _ (by simp only []; omega)).trans hg⟩
  · obtain ⟨g, hg⟩ := d2 i i0 i1; exact ⟨g, (hf _ (by simp only []; omega)).trans hg⟩
/-- the world does not look at the reference -/
theorem Rx_fr {σ : MS} {w : RW} {G G' : GH} (hf : ∀ q : Rl, 2 ≤ q.1 → G' q = G q) (h : Rx σ w G) : Rx σ w G' := by
  obtain ⟨h1, h2, h3, h4, h5, h6, h7, h8, h9, h10, h11⟩ := h
  refine ⟨(hf _ (by decide)).trans h1, Rkin_fr (fun q hq => hf q (by omega)) h2, Rrow_fr (fun q hq _ _ => hf q (by omega)) h3, Rpat_fr (fun p _ _ => hf _ (by simp only []; omega)) (fun q hq _ => hf q (by omega)) (fun _ _ _ q hq _ => hf q (by omega)) h4, Rchg_fr (hf _ (by decide)) (fun _ _ _ => hf _ (by simp only []; omega)) (fun _ _ _ q hq _ => hf q (by omega)) h5, Rreg_fr (fun q hq _ => hf q (by omega)) h6, Rrul_fr (fun q hq => hf q (by omega)) h7, Rflo_fr (fun q hq => hf q (by omega)) h8, Rscr_fr (fun q hq => hf q (by omega)) h9, fun r hr => (hf r (by omega)).trans (h10 r hr), h11⟩
theorem Rel_ov {σ τ : MS} {G : GH} (h : Rel σ G) : Rel σ (ov τ G) := by
  obtain ⟨w, h⟩ := h
  exact ⟨w, Rx_fr (fun q hq => ov_n (by omega) (by omega)) h⟩
