set_option maxRecDepth 10000
section
variable {d : Nat} {K : Option XV → GH → Prop} {G : GH} {bc bs : Nat}
theorem lst_of {G : GH} {a n mc j : Int} {c : Nat} {e : Rl} {f : Int → Option Rl} (h0 : 0 ≤ n) (hO : G (lO a) = some (xob 9 [xI mc, xR e, xI n])) (hA : lar G a j c n e f) : lst G a n f := ⟨h0, mc, j, c, e, hO, hA⟩
theorem lar_o {G G' : GH} {a j n : Int} {c : Nat} {e : Rl} {f : Int → Option Rl} (h : lar G a j c n e f) (hf : ∀ q, q ≠ lO a → G' q = G q) : lar G' a j c n e f := by
  obtain ⟨h1, h2, h3, h4⟩ := h
  refine ⟨fun j' hj => (hf _ (rl_ne (by omega))).trans (h1 j' hj), h2, h3, ?_⟩
  rcases h4 with ⟨e1, g, hg, hf'⟩ | h4
  · exact Or.inl ⟨e1, g, (hf _ (rl_ne (by omega))).trans hg, hf'⟩
  · exact Or.inr h4
theorem lfr_o {G G' : GH} {a : Int} (hf : ∀ q, q ≠ lO a → G' q = G q) : lfr a G G' := lfr_s ⟨Or.inl rfl, rfl⟩ hf
theorem lfr_a {G G' : GH} {a j : Int} (hf : ∀ q, q ≠ lA a j → G' q = G q) : lfr a G G' := lfr_s ⟨Or.inr rfl, rfl⟩ hf
theorem lfr_V {G G' : GH} {a : Int} (hf : lfr a G G') {v : Rl} {e : XE} (hv : v.1 < 30 ∨ 32 ≤ v.1) (h : G v = some e) : G' v = some e := (hf v (by omega)).trans h
/-- an own array behind a list -/
theorem lar_own {G : GH} {a j n : Int} {c : Nat} {e : Rl} {f : Int → Option Rl} (h0 : 0 ≤ n) (hc : n < c) (h : lar G a j c n e f) : e = lA a j ∧ c ≤ 100 ∧ (∀ j', j < j' → G (lA a j') = none) ∧ ∃ g, G (lA a j) = some (xra 5 c g) ∧ ∀ i, 0 ≤ i → i < n → g i = f i := by
  obtain ⟨h1, h2, h3, ⟨e1, g, hg⟩ | ⟨h4, -⟩⟩ := h
  · exact ⟨e1, h3, h1, g, hg⟩
  · omega
theorem lst_fr {G G' : GH} {a b n : Int} {f : Int → Option Rl} (hab : a ≠ b) (hf : lfr a G G') (h : lst G b n f) : lst G' b n f := by
  obtain ⟨h0, mc, j, c, e, hO, h1, h2, h3, h4⟩ := h
  refine ⟨h0, mc, j, c, e, (hf _ (by simp only []; omega)).trans hO, fun j' hj => (hf _ (by simp only []; omega)).trans (h1 j' hj), h2, h3, ?_⟩
  rcases h4 with ⟨e1, g, hg, hf'⟩ | h4
  · exact Or.inl ⟨e1, g, (hf _ (by simp only []; omega)).trans hg, hf'⟩
  · exact Or.inr h4
theorem c_J2_add_2 {a n mc j : Int} {c : Nat} {e v : Rl} {vs : List XV} {f : Int → Option Rl} {ci : Nat} (hO : G (lO a) = some (xob 9 [xI mc, xR e, xI n])) (h0 : 0 ≤ n) (hA : lar G a j c n e f) (hc : n < 60) (has : tv_as 5 ci) (hel : lel G n f ci) (hV : G v = some (xob ci vs)) (hvt : v.1 < 30 ∨ 32 ≤ v.1)
    (h : ∀ G', lfr a G G' → lst G' a (n + 1) (rset f n (some v)) → K none G') : tvW mJ2_add_2 (d + 5) K 0 [some (xR (lO a)), some (xR v), some (xR e), some (xI n)] [] G 1 100 := by
  have go : ∀ (G1 : GH) (j1 : Int) (c1 : Nat) (e1 : Rl) (bc bs : Nat), lfr a G G1 → G1 (lO a) = some (xob 9 [xI mc, xR e1, xI n]) → lar G1 a j1 c1 n e1 f → n < c1 → tvW mJ2_add_2 (d + 5) K 11 [some (xR (lO a)), some (xR v), some (xR e1), some (xI n)] [] G1 bc bs := by
    intro G1 j1 c1 e1 bc bs hf1 hO1 hA1 hc1
    obtain ⟨rfl, hc2, hfree, g, hg, hgf⟩ := lar_own h0 hc1 hA1
    refine w_aload_n (pc' := 12) dJ2_add_2_11 rfl rfl ?_
    refine w_iload_n (pc' := 13) dJ2_add_2_12 rfl rfl ?_
    refine w_aload_n (pc' := 14) dJ2_add_2_13 rfl rfl ?_
    -- at 14: .aastore
    refine w_aast (pc' := 15) dJ2_add_2_14 rfl hg (lfr_V hf1 hvt hV) has h0 hc1 ?_
    refine w_upd (fun G2 a2 f2 => ?_)
    have hO1 := (f2 _ (rl_ne (by omega))).trans hO1
    refine w_aload_n (pc' := 16) dJ2_add_2_15 rfl rfl ?_
    refine w_iload_n (pc' := 17) dJ2_add_2_16 rfl rfl ?_
    refine w_iconst (pc' := 18) dJ2_add_2_17 rfl (by decide) ?_
    refine w_iadd (pc' := 19) dJ2_add_2_18 rfl ⟨by first | omega | (simp (decide := true) only [au_1, nu_2, au_lt, nu_lt, aw_e, nw_e, au_s, au_n, nu_s, nu_n, au_au, nu_nu, au_nu]; omega), by first | omega | (simp (decide := true) only [au_1, nu_2, au_lt, nu_lt, aw_e, nw_e, au_s, au_n, nu_s, nu_n, au_au, nu_nu, au_nu]; omega)⟩ ?_
    refine w_put 2 (pc' := 22) dJ2_add_2_19 rfl pJ2_48_9 (by decide) hO1 (Nat.le_of_ble_eq_true rfl) trivial ?_
    -- at 22: .return_
    refine w_upd (fun G3 a3 f3 => ?_)
    have a2 := (f3 _ (rl_ne (by omega))).trans a2
    refine w_return dJ2_add_2_22 rfl ?_
    refine h G3 (lfr_t hf1 (lfr_t (lfr_a f2) (lfr_o f3))) (lst_of (by omega) a3 ⟨?_, by omega, hc2, Or.inl ⟨rfl, _, a2, ?_⟩⟩)
    · intro j' hj
      rw [f3 _ (rl_ne (by omega)), f2 _ (rl_ne (by omega))]
      exact hfree j' hj
    · intro i i0 i1
      unfold rset
      split
      · rfl
      · exact hgf i i0 (by omega)
  have first : ∀ (kk : tvW mJ2_add_2 (d + 5) K 3 [some (xR (lO a)), some (xR v), some (xR e), some (xI n)] [xI c, xI n] G 1 100), tvW mJ2_add_2 (d + 5) K 0 [some (xR (lO a)), some (xR v), some (xR e), some (xI n)] [] G 1 100 := by
    intro kk
    refine w_iload_n (pc' := 1) dJ2_add_2_0 rfl rfl ?_
    refine w_aload_n (pc' := 2) dJ2_add_2_1 rfl rfl ?_
    -- at 2: .arraylength
    rcases lar_oa hA with ⟨g, hg⟩ | ⟨rfl, hx⟩
    · exact w_alenR (pc' := 3) dJ2_add_2_2 rfl hg kk
    · exact w_alenX (pc' := 3) dJ2_add_2_2 rfl hx kk
  refine first ?_
  refine w_icmp_ne (pc' := 6) (tgt := 11) dJ2_add_2_3 rfl rfl (fun q => ?_) (fun q => ?_)
  · exact go G j c e 1 100 (fun _ _ => rfl) hO hA (by have := hA.2.1; omega)
  · refine w_aload_n (pc' := 7) dJ2_add_2_6 rfl rfl ?_
    -- at 7: .invokevirtual 129
    refine w_callV0 (pc' := 10) (mc := 1) (ms := 100) dJ2_add_2_7 rfl tJ2_grow q266 rfl rfl qs1 q264 hO rfl (Nat.le_of_ble_eq_true rfl) (Nat.le_of_ble_eq_true rfl) ?_
    refine c_J2_grow hO hA q (by omega) has hel (fun G' c' q1 q2 q3 q4 => w_p1 ?_)
    refine w_ast2 (pc' := 11) dJ2_add_2_10 rfl rfl ?_
    -- at 11: .aload_n 2
    exact go G' (j + 1) c' _ 0 0 q1 q2 q3 q4
theorem c_J2_add {a n : Int} {v : Rl} {vs : List XV} {f : Int → Option Rl} {ci : Nat} (hl : lst G a n f) (hc : n < 60) (has : tv_as 5 ci) (hel : lel G n f ci) (hV : G v = some (xob ci vs)) (hvt : v.1 < 30 ∨ 32 ≤ v.1)
    (h : ∀ G', lfr a G G' → lst G' a (n + 1) (rset f n (some v)) → K (some (xI 1)) G') : tvW mJ2_add (d + 6) K 0 [some (xR (lO a)), some (xR v)] [] G 1 100 := by
  obtain ⟨h0, mc, j, c, e, hO, hA⟩ := hl
  refine w_aload_n (pc' := 1) dJ2_add_0 rfl rfl ?_
  refine w_dup (pc' := 2) dJ2_add_1 rfl rfl ?_
  refine w_get 0 (pc' := 5) dJ2_add_2 rfl fJ2_63_9 hO rfl ?_
  refine w_iconst (pc' := 6) dJ2_add_5 rfl (by decide) ?_
  refine w_iaddW (pc' := 7) dJ2_add_6 rfl ?_
  refine w_put 0 (pc' := 10) dJ2_add_7 rfl pJ2_63_9 (by decide) hO (Nat.le_of_ble_eq_true rfl) trivial ?_
  -- at 10: .aload_n 0
  refine w_upd (fun G1 a1 f1 => ?_)
  have fr := lfr_o f1
  refine w_aload_n (pc' := 11) dJ2_add_10 rfl rfl ?_
  refine w_aload_n (pc' := 12) dJ2_add_11 rfl rfl ?_
  refine w_aload_n (pc' := 13) dJ2_add_12 rfl rfl ?_
  refine w_get 1 (pc' := 16) dJ2_add_13 rfl fJ2_9_9 a1 rfl ?_
  refine w_aload_n (pc' := 17) dJ2_add_16 rfl rfl ?_
  refine w_get 2 (pc' := 20) dJ2_add_17 rfl fJ2_48_9 a1 rfl ?_
  -- at 20: .invokevirtual 131
  refine w_callV3 (pc' := 23) (mc := 1) (ms := 100) dJ2_add_20 rfl tJ2_add_2 q262 rfl rfl qs0 q260 a1 rfl (Nat.le_of_ble_eq_true rfl) (Nat.le_of_ble_eq_true rfl) ?_
  refine c_J2_add_2 a1 h0 (lar_o hA f1) hc has (lel_fr hel fr) (lfr_V fr hvt hV) hvt (fun G' q1 q2 => w_p0 ?_)
  refine w_iconst (pc' := 24) dJ2_add_23 rfl (by decide) ?_
  -- at 24: .ireturn
  refine w_zreturn dJ2_add_24 rfl (by first | exact Or.inl rfl | exact Or.inr rfl | omega) ?_
  exact h G' (lfr_t fr q1) q2
theorem c_J2_set {a n i : Int} {v : Rl} {vs : List XV} {f : Int → Option Rl} {ci : Nat} (hl : lst G a n f) (hi : 0 ≤ i ∧ i < n) (has : tv_as 5 ci) (hV : G v = some (xob ci vs))
    (h : ∀ G', lfr a G G' → lst G' a n (rset f i (some v)) → K (some (xO (f i))) G') : tvW mJ2_set (d + 2) K 0 [some (xR (lO a)), some (xI i), some (xR v), none] [] G bc bs := by
  have hl0 := hl
  obtain ⟨h0, mc, j, c, e, hO, hA⟩ := hl
  refine w_iload_n (pc' := 1) dJ2_set_0 rfl rfl ?_
  refine w_aload_n (pc' := 2) dJ2_set_1 rfl rfl ?_
  refine w_get 2 (pc' := 5) dJ2_set_2 rfl fJ2_48_9 hO rfl ?_
  -- at 5: .invokestatic 118
  refine w_callS2 (pc' := 8) (mc := 0) (ms := 0) dJ2_set_5 rfl tJ3_checkIndex q215 q214 rfl (Nat.le_of_ble_eq_true rfl) (Nat.le_of_ble_eq_true rfl) ?_
  refine c_J3_checkIndex hi.1 hi.2 ?_
  refine w_p1 ?_
  refine w_pop (pc' := 9) dJ2_set_8 rfl rfl ?_
  refine w_aload_n (pc' := 10) dJ2_set_9 rfl rfl ?_
  refine w_iload_n (pc' := 11) dJ2_set_10 rfl rfl ?_
  -- at 11: .invokevirtual 123
  refine w_callV1 (pc' := 14) (mc := 0) (ms := 0) dJ2_set_11 rfl tJ2_elementData q221 rfl rfl q222 q220 hO rfl (Nat.le_of_ble_eq_true rfl) (Nat.le_of_ble_eq_true rfl) ?_
  refine c_J2_elementData hl0 hi ?_
  refine w_p1 ?_
  refine w_ast3 (pc' := 15) dJ2_set_14 rfl rfl ?_
  refine w_aload_n (pc' := 16) dJ2_set_15 rfl rfl ?_
  refine w_get 1 (pc' := 19) dJ2_set_16 rfl fJ2_9_9 hO rfl ?_
  refine w_iload_n (pc' := 20) dJ2_set_19 rfl rfl ?_
  refine w_aload_n (pc' := 21) dJ2_set_20 rfl rfl ?_
  -- at 21: .aastore
  obtain ⟨hfree, hn, hc, ⟨rfl, g, hg, hf⟩ | ⟨rfl, -⟩⟩ := hA
  · refine w_aast (pc' := 22) dJ2_set_21 rfl hg hV has hi.1 (by omega) ?_
    refine w_upd (fun G2 a2 f2 => ?_)
    have hO := (f2 _ (rl_ne (by omega))).trans hO
    refine w_aload_n (pc' := 23) dJ2_set_22 rfl rfl ?_
    -- at 23: .areturn
    refine w_areturn dJ2_set_23 rfl ?_
    refine h G2 (lfr_a f2) (lst_of h0 hO ⟨fun j' hj => (f2 _ (rl_ne (by omega))).trans (hfree j' hj), hn, hc, Or.inl ⟨rfl, _, a2, ?_⟩⟩)
    intro k k0 k1
    unfold rset
    split
    · rfl
    · exact hf k k0 k1
  · omega
theorem c_J2_fastRemove {a n mc j i : Int} {c : Nat} {e : Rl} {f : Int → Option Rl} {ci : Nat} (hO : G (lO a) = some (xob 9 [xI mc, xR e, xI n])) (hi : 0 ≤ i ∧ i < n) (hA : lar G a j c n e f) (has : tv_as 5 ci) (hel : lel G n f ci)
    (h : ∀ G', lfr a G G' → lst G' a (n - 1) (fun k => if k < i then f k else f (k + 1)) → K none G') : tvW mJ2_fastRemove (d + 1) K 0 [some (xR (lO a)), some (xR e), some (xI i), none] [] G bc bs := by
  obtain ⟨hfree, hn, hc, ⟨rfl, g, hg, hf⟩ | ⟨rfl, -⟩⟩ := hA
  · refine w_aload_n (pc' := 1) dJ2_fastRemove_0 rfl rfl ?_
    refine w_dup (pc' := 2) dJ2_fastRemove_1 rfl rfl ?_
    refine w_get 0 (pc' := 5) dJ2_fastRemove_2 rfl fJ2_63_9 hO rfl ?_
    refine w_iconst (pc' := 6) dJ2_fastRemove_5 rfl (by decide) ?_
    refine w_iaddW (pc' := 7) dJ2_fastRemove_6 rfl ?_
    refine w_put 0 (pc' := 10) dJ2_fastRemove_7 rfl pJ2_63_9 (by decide) hO (Nat.le_of_ble_eq_true rfl) trivial ?_
    -- at 10: .aload_n 0
    refine w_upd (fun G1 a1 f1 => ?_)
    have hg := (f1 _ (rl_ne (by omega))).trans hg
    have hfree : ∀ j', j < j' → G1 (lA a j') = none := fun j' hj => (f1 _ (rl_ne (by omega))).trans (hfree j' hj)
    have go : ∀ (G2 : GH) (g2 : Int → Option Rl), G2 (lA a j) = some (xra 5 c g2) → (∀ q, q ≠ lA a j → G2 q = G1 q) → (∀ k, 0 ≤ k → k < n - 1 → g2 k = if k < i then f k else f (k + 1)) → tvW mJ2_fastRemove (d + 1) K 34 [some (xR (lO a)), some (xR (lA a j)), some (xI i), some (xI (n - 1))] [] G2 bc bs := by
      intro G2 g2 a2 f2 hg2
      have a1 := (f2 _ (rl_ne (by omega))).trans a1
      refine w_aload_n (pc' := 35) dJ2_fastRemove_34 rfl rfl ?_
      refine w_aload_n (pc' := 36) dJ2_fastRemove_35 rfl rfl ?_
      refine w_iload_n (pc' := 37) dJ2_fastRemove_36 rfl rfl ?_
      refine w_dup_x1 (pc' := 38) dJ2_fastRemove_37 rfl rfl rfl ?_
      refine w_put 2 (pc' := 41) dJ2_fastRemove_38 rfl pJ2_48_9 (by decide) a1 (Nat.le_of_ble_eq_true rfl) trivial ?_
      -- at 41: .aconst_null
      refine w_upd (fun G3 a3 f3 => ?_)
      have a2 := (f3 _ (rl_ne (by omega))).trans a2
      refine w_null (pc' := 42) dJ2_fastRemove_41 rfl ?_
      -- at 42: .aastore
      refine w_aastN (pc' := 43) dJ2_fastRemove_42 rfl a2 (by omega) (by omega) (by omega) ?_
      refine w_upd (fun G4 a4 f4 => ?_)
      have a3 := (f4 _ (rl_ne (by omega))).trans a3
      refine w_return dJ2_fastRemove_43 rfl ?_
      refine h G4 (lfr_t (lfr_o f1) (lfr_t (lfr_a f2) (lfr_t (lfr_o f3) (lfr_a f4)))) (lst_of (by omega) a3 ⟨?_, by omega, hc, Or.inl ⟨rfl, _, a4, ?_⟩⟩)
      · intro j' hj
        rw [f4 _ (rl_ne (by omega)), f3 _ (rl_ne (by omega)), f2 _ (rl_ne (by omega))]
        exact hfree j' hj
      · intro k k0 k1
        unfold rset
        rw [if_neg (by omega)]
        exact hg2 k k0 k1
    refine w_aload_n (pc' := 11) dJ2_fastRemove_10 rfl rfl ?_
    refine w_get 2 (pc' := 14) dJ2_fastRemove_11 rfl fJ2_48_9 a1 rfl ?_
    refine w_iconst (pc' := 15) dJ2_fastRemove_14 rfl (by decide) ?_
    refine w_isub (pc' := 16) dJ2_fastRemove_15 rfl ⟨by first | omega | (simp (decide := true) only [au_1, nu_2, au_lt, nu_lt, aw_e, nw_e, au_s, au_n, nu_s, nu_n, au_au, nu_nu, au_nu]; omega), by first | omega | (simp (decide := true) only [au_1, nu_2, au_lt, nu_lt, aw_e, nw_e, au_s, au_n, nu_s, nu_n, au_au, nu_nu, au_nu]; omega)⟩ ?_
    refine w_dup (pc' := 17) dJ2_fastRemove_16 rfl rfl ?_
    refine w_ist3 (pc' := 18) dJ2_fastRemove_17 rfl rfl ?_
    refine w_iload_n (pc' := 19) dJ2_fastRemove_18 rfl rfl ?_
    -- at 19: .if_icmp .le 15
    refine w_icmp_le (pc' := 22) (tgt := 34) dJ2_fastRemove_19 rfl rfl (fun q => ?_) (fun q => ?_)
    · refine go G1 g hg (fun _ _ => rfl) (fun k k0 k1 => ?_)
      rw [if_pos (by omega)]
      exact hf k k0 (by omega)
    · refine w_aload_n (pc' := 23) dJ2_fastRemove_22 rfl rfl ?_
      refine w_iload_n (pc' := 24) dJ2_fastRemove_23 rfl rfl ?_
      refine w_iconst (pc' := 25) dJ2_fastRemove_24 rfl (by decide) ?_
      refine w_iadd (pc' := 26) dJ2_fastRemove_25 rfl ⟨by first | omega | (simp (decide := true) only [au_1, nu_2, au_lt, nu_lt, aw_e, nw_e, au_s, au_n, nu_s, nu_n, au_au, nu_nu, au_nu]; omega), by first | omega | (simp (decide := true) only [au_1, nu_2, au_lt, nu_lt, aw_e, nw_e, au_s, au_n, nu_s, nu_n, au_au, nu_nu, au_nu]; omega)⟩ ?_
      refine w_aload_n (pc' := 27) dJ2_fastRemove_26 rfl rfl ?_
      refine w_iload_n (pc' := 28) dJ2_fastRemove_27 rfl rfl ?_
      refine w_iload_n (pc' := 29) dJ2_fastRemove_28 rfl rfl ?_
      refine w_iload_n (pc' := 30) dJ2_fastRemove_29 rfl rfl ?_
      refine w_isub (pc' := 31) dJ2_fastRemove_30 rfl ⟨by first | omega | (simp (decide := true) only [au_1, nu_2, au_lt, nu_lt, aw_e, nw_e, au_s, au_n, nu_s, nu_n, au_au, nu_nu, au_nu]; omega), by first | omega | (simp (decide := true) only [au_1, nu_2, au_lt, nu_lt, aw_e, nw_e, au_s, au_n, nu_s, nu_n, au_au, nu_nu, au_nu]; omega)⟩ ?_
      -- at 31: .invokestatic 112
      refine w_acopyR (n0 := c) (n1 := c) (ci := ci) (pc' := 34) dJ2_fastRemove_31 rfl q460 hg hg rfl rfl has (by omega) (by omega) (by omega) (by omega) (by omega) ?_ (Nat.le_of_ble_eq_true rfl) ?_
      · intro k k0 k1 x hx
        obtain ⟨x', fs, e1, e2, e3⟩ := lel_fr hel (lfr_o f1) k (by omega) (by omega)
        rw [hf k (by omega) (by omega), e1] at hx
        cases hx
        exact ⟨fs, e3⟩
      · refine w_upd (fun G2 a2 f2 => ?_)
        refine go G2 _ a2 f2 (fun k k0 k1 => ?_)
        unfold rcp
        by_cases q2 : k < i
        · rw [if_pos q2, if_neg (by omega)]
          exact hf k k0 (by omega)
        · rw [if_neg q2, if_pos (by omega), show i + 1 + (k - i) = k + 1 by omega]
          exact hf (k + 1) (by omega) (by omega)
  · omega
theorem c_J2_remove {a n i : Int} {f : Int → Option Rl} {ci : Nat} (hl : lst G a n f) (hi : 0 ≤ i ∧ i < n) (has : tv_as 5 ci) (hel : lel G n f ci)
    (h : ∀ G', lfr a G G' → lst G' a (n - 1) (fun k => if k < i then f k else f (k + 1)) → K (some (xO (f i))) G') : tvW mJ2_remove (d + 2) K 0 [some (xR (lO a)), some (xI i), none, none] [] G bc bs := by
  obtain ⟨h0, mc, j, c, e, hO, hA⟩ := hl
  have hA0 := hA
  obtain ⟨hfree, hn, hc, ⟨rfl, g, hg, hf⟩ | ⟨rfl, -⟩⟩ := hA
  · refine w_iload_n (pc' := 1) dJ2_remove_0 rfl rfl ?_
    refine w_aload_n (pc' := 2) dJ2_remove_1 rfl rfl ?_
    refine w_get 2 (pc' := 5) dJ2_remove_2 rfl fJ2_48_9 hO rfl ?_
    -- at 5: .invokestatic 118
    refine w_callS2 (pc' := 8) (mc := 0) (ms := 0) dJ2_remove_5 rfl tJ3_checkIndex q215 q214 rfl (Nat.le_of_ble_eq_true rfl) (Nat.le_of_ble_eq_true rfl) ?_
    refine c_J3_checkIndex hi.1 hi.2 ?_
    refine w_p1 ?_
    refine w_pop (pc' := 9) dJ2_remove_8 rfl rfl ?_
    refine w_aload_n (pc' := 10) dJ2_remove_9 rfl rfl ?_
    refine w_get 1 (pc' := 13) dJ2_remove_10 rfl fJ2_9_9 hO rfl ?_
    refine w_ast2 (pc' := 14) dJ2_remove_13 rfl rfl ?_
    refine w_aload_n (pc' := 15) dJ2_remove_14 rfl rfl ?_
    refine w_iload_n (pc' := 16) dJ2_remove_15 rfl rfl ?_
    refine w_aald (pc' := 17) dJ2_remove_16 rfl hg (by omega) (by omega) ?_
    refine w_ast3 (pc' := 18) dJ2_remove_17 rfl rfl ?_
    refine w_aload_n (pc' := 19) dJ2_remove_18 rfl rfl ?_
    refine w_aload_n (pc' := 20) dJ2_remove_19 rfl rfl ?_
    refine w_iload_n (pc' := 21) dJ2_remove_20 rfl rfl ?_
    -- at 21: .invokevirtual 144
    refine w_callV2 (pc' := 24) (mc := 0) (ms := 0) dJ2_remove_21 rfl tJ2_fastRemove q478 rfl rfl qs8 q476 hO rfl (Nat.le_of_ble_eq_true rfl) (Nat.le_of_ble_eq_true rfl) ?_
    refine c_J2_fastRemove hO hi hA0 has hel (fun G' q1 q2 => w_p0 ?_)
    refine w_aload_n (pc' := 25) dJ2_remove_24 rfl rfl ?_
    -- at 25: .areturn
    refine w_areturn dJ2_remove_25 rfl ?_
    rw [hf i hi.1 hi.2]
    exact h G' q1 q2
  · omega
theorem c_J2_rangeCheckForAdd {a n i : Int} {f : Int → Option Rl} (hl : lst G a n f) (hi : 0 ≤ i ∧ i ≤ n) (h : K none G) : tvW mJ2_rangeCheckForAdd d K 0 [some (xR (lO a)), some (xI i)] [] G bc bs := by
  obtain ⟨h0, mc, j, c, e, hO, hA⟩ := hl
  refine w_iload_n (pc' := 1) dJ2_rangeCheckForAdd_0 rfl rfl ?_
  refine w_aload_n (pc' := 2) dJ2_rangeCheckForAdd_1 rfl rfl ?_
  refine w_get 2 (pc' := 5) dJ2_rangeCheckForAdd_2 rfl fJ2_48_9 hO rfl ?_
  -- at 5: .if_icmp .gt 7
  refine w_icmp_gt (pc' := 8) (tgt := 12) dJ2_rangeCheckForAdd_5 rfl rfl (fun h_ => False.elim (by first | omega | (simp (decide := true) only [au_1, nu_2, au_lt, nu_lt, aw_e, nw_e, au_s, au_n, nu_s, nu_n, au_au, nu_nu, au_nu] at h_; omega))) (fun h_ => ?_)
  refine w_iload_n (pc' := 9) dJ2_rangeCheckForAdd_8 rfl rfl ?_
  -- at 9: .ifCond .ge 16
  refine w_if_ge (pc' := 12) (tgt := 25) dJ2_rangeCheckForAdd_9 rfl rfl (fun h_ => ?_) (fun h_ => False.elim (by first | omega | (simp (decide := true) only [au_1, nu_2, au_lt, nu_lt, aw_e, nw_e, au_s, au_n, nu_s, nu_n, au_au, nu_nu, au_nu] at h_; omega)))
  refine w_return dJ2_rangeCheckForAdd_25 rfl ?_
  exact h
theorem c_J2_add_3 {a n i : Int} {v : Rl} {vs : List XV} {f : Int → Option Rl} {ci : Nat} (hl : lst G a n f) (hc : n < 60) (hi : 0 ≤ i ∧ i ≤ n) (has : tv_as 5 ci) (hel : lel G n f ci) (hV : G v = some (xob ci vs)) (hvt : v.1 < 30 ∨ 32 ≤ v.1)
    (h : ∀ G', lfr a G G' → lst G' a (n + 1) (fun k => if k < i then f k else if k = i then some v else f (k - 1)) → K none G') : tvW mJ2_add_3 (d + 5) K 0 [some (xR (lO a)), some (xI i), some (xR v), none, none] [] G 1 100 := by
  have hl0 := hl
  obtain ⟨h0, mc, j, c, e, hO, hA⟩ := hl
  have go : ∀ (mc : Int) (G1 : GH) (j1 : Int) (c1 : Nat) (e1 : Rl) (bc bs : Nat), lfr a G G1 → G1 (lO a) = some (xob 9 [xI mc, xR e1, xI n]) → lar G1 a j1 c1 n e1 f → n < c1 → tvW mJ2_add_3 (d + 5) K 38 [some (xR (lO a)), some (xI i), some (xR v), some (xI n), some (xR e1)] [] G1 bc bs := by
    intro mc G1 j1 c1 e1 bc bs hf1 hO1 hA1 hc1
    obtain ⟨rfl, hc2, hfree, g, hg, hgf⟩ := lar_own h0 hc1 hA1
    refine w_aload (pc' := 40) dJ2_add_3_38 rfl rfl ?_
    refine w_iload_n (pc' := 41) dJ2_add_3_40 rfl rfl ?_
    refine w_aload (pc' := 43) dJ2_add_3_41 rfl rfl ?_
    refine w_iload_n (pc' := 44) dJ2_add_3_43 rfl rfl ?_
    refine w_iconst (pc' := 45) dJ2_add_3_44 rfl (by decide) ?_
    refine w_iadd (pc' := 46) dJ2_add_3_45 rfl ⟨by first | omega | (simp (decide := true) only [au_1, nu_2, au_lt, nu_lt, aw_e, nw_e, au_s, au_n, nu_s, nu_n, au_au, nu_nu, au_nu]; omega), by first | omega | (simp (decide := true) only [au_1, nu_2, au_lt, nu_lt, aw_e, nw_e, au_s, au_n, nu_s, nu_n, au_au, nu_nu, au_nu]; omega)⟩ ?_
    refine w_iload_n (pc' := 47) dJ2_add_3_46 rfl rfl ?_
    refine w_iload_n (pc' := 48) dJ2_add_3_47 rfl rfl ?_
    refine w_isub (pc' := 49) dJ2_add_3_48 rfl ⟨by first | omega | (simp (decide := true) only [au_1, nu_2, au_lt, nu_lt, aw_e, nw_e, au_s, au_n, nu_s, nu_n, au_au, nu_nu, au_nu]; omega), by first | omega | (simp (decide := true) only [au_1, nu_2, au_lt, nu_lt, aw_e, nw_e, au_s, au_n, nu_s, nu_n, au_au, nu_nu, au_nu]; omega)⟩ ?_
    -- at 49: .invokestatic 112
    refine w_acopyR (n0 := c1) (n1 := c1) (ci := ci) (pc' := 52) dJ2_add_3_49 rfl q460 hg hg rfl rfl has (by omega) (by omega) (by omega) (by omega) (by omega) ?_ (Nat.le_of_ble_eq_true rfl) ?_
    · intro k k0 k1 x hx
      obtain ⟨x', fs, e1, e2, e3⟩ := lel_fr hel hf1 k (by omega) (by omega)
      rw [hgf k (by omega) (by omega), e1] at hx
      cases hx
      exact ⟨fs, e3⟩
    · refine w_upd (fun G2 a2 f2 => ?_)
      have hO1 := (f2 _ (rl_ne (by omega))).trans hO1
      refine w_aload (pc' := 54) dJ2_add_3_52 rfl rfl ?_
      refine w_iload_n (pc' := 55) dJ2_add_3_54 rfl rfl ?_
      refine w_aload_n (pc' := 56) dJ2_add_3_55 rfl rfl ?_
      -- at 56: .aastore
      refine w_aast (pc' := 57) dJ2_add_3_56 rfl a2 (lfr_V (lfr_t hf1 (lfr_a f2)) hvt hV) has hi.1 (by omega) ?_
      refine w_upd (fun G3 a3 f3 => ?_)
      have hO1 := (f3 _ (rl_ne (by omega))).trans hO1
      refine w_aload_n (pc' := 58) dJ2_add_3_57 rfl rfl ?_
      refine w_iload_n (pc' := 59) dJ2_add_3_58 rfl rfl ?_
      refine w_iconst (pc' := 60) dJ2_add_3_59 rfl (by decide) ?_
      refine w_iadd (pc' := 61) dJ2_add_3_60 rfl ⟨by first | omega | (simp (decide := true) only [au_1, nu_2, au_lt, nu_lt, aw_e, nw_e, au_s, au_n, nu_s, nu_n, au_au, nu_nu, au_nu]; omega), by first | omega | (simp (decide := true) only [au_1, nu_2, au_lt, nu_lt, aw_e, nw_e, au_s, au_n, nu_s, nu_n, au_au, nu_nu, au_nu]; omega)⟩ ?_
      refine w_put 2 (pc' := 64) dJ2_add_3_61 rfl pJ2_48_9 (by decide) hO1 (Nat.le_of_ble_eq_true rfl) trivial ?_
      -- at 64: .return_
      refine w_upd (fun G4 a4 f4 => ?_)
      have a3 := (f4 _ (rl_ne (by omega))).trans a3
      refine w_return dJ2_add_3_64 rfl ?_
      refine h G4 (lfr_t hf1 (lfr_t (lfr_a f2) (lfr_t (lfr_a f3) (lfr_o f4)))) (lst_of (by omega) a4 ⟨?_, by omega, hc2, Or.inl ⟨rfl, _, a3, ?_⟩⟩)
      · intro j' hj
        rw [f4 _ (rl_ne (by omega)), f3 _ (rl_ne (by omega)), f2 _ (rl_ne (by omega))]
        exact hfree j' hj
      · intro k k0 k1
        unfold rset rcp
        simp only []
        by_cases q1 : k = i
        · rw [if_pos q1, if_neg (by omega), if_pos q1]
        · rw [if_neg q1]
          by_cases q2 : k < i
          · rw [if_pos q2, if_neg (by omega)]
            exact hgf k k0 (by omega)
          · rw [if_neg q2, if_neg q1, if_pos (by omega), show i + (k - (i + 1)) = k - 1 by omega]
            exact hgf (k - 1) (by omega) (by omega)
  refine w_aload_n (pc' := 1) dJ2_add_3_0 rfl rfl ?_
  refine w_iload_n (pc' := 2) dJ2_add_3_1 rfl rfl ?_
  -- at 2: .invokevirtual 135
  refine w_callV1 (pc' := 5) (mc := 0) (ms := 0) dJ2_add_3_2 rfl tJ2_rangeCheckForAdd q458 rfl rfl qs7 q456 hO rfl (Nat.le_of_ble_eq_true rfl) (Nat.le_of_ble_eq_true rfl) ?_
  refine c_J2_rangeCheckForAdd hl0 hi ?_
  refine w_p0 ?_
  refine w_aload_n (pc' := 6) dJ2_add_3_5 rfl rfl ?_
  refine w_dup (pc' := 7) dJ2_add_3_6 rfl rfl ?_
  refine w_get 0 (pc' := 10) dJ2_add_3_7 rfl fJ2_63_9 hO rfl ?_
  refine w_iconst (pc' := 11) dJ2_add_3_10 rfl (by decide) ?_
  refine w_iaddW (pc' := 12) dJ2_add_3_11 rfl ?_
  refine w_put 0 (pc' := 15) dJ2_add_3_12 rfl pJ2_63_9 (by decide) hO (Nat.le_of_ble_eq_true rfl) trivial ?_
  -- at 15: .aload_n 0
  refine w_upd (fun G1 a1 f1 => ?_)
  have fr := lfr_o f1
  have hA1 := lar_o hA f1
  refine w_aload_n (pc' := 16) dJ2_add_3_15 rfl rfl ?_
  refine w_get 2 (pc' := 19) dJ2_add_3_16 rfl fJ2_48_9 a1 rfl ?_
  refine w_dup (pc' := 20) dJ2_add_3_19 rfl rfl ?_
  refine w_ist3 (pc' := 21) dJ2_add_3_20 rfl rfl ?_
  refine w_aload_n (pc' := 22) dJ2_add_3_21 rfl rfl ?_
  refine w_get 1 (pc' := 25) dJ2_add_3_22 rfl fJ2_9_9 a1 rfl ?_
  refine w_dup (pc' := 26) dJ2_add_3_25 rfl rfl ?_
  refine w_ast4 (pc' := 28) dJ2_add_3_26 rfl rfl ?_
  -- at 28: .arraylength
  have first : ∀ (kk : tvW mJ2_add_3 (d + 5) K 29 [some (xR (lO a)), some (xI i), some (xR v), some (xI n), some (xR e)] [xI c, xI n] G1 1 100), tvW mJ2_add_3 (d + 5) K 28 [some (xR (lO a)), some (xI i), some (xR v), some (xI n), some (xR e)] [xR e, xI n] G1 1 100 := by
    intro kk
    rcases lar_oa hA1 with ⟨g, hg⟩ | ⟨rfl, hx⟩
    · exact w_alenR (pc' := 29) dJ2_add_3_28 rfl hg kk
    · exact w_alenX (pc' := 29) dJ2_add_3_28 rfl hx kk
  refine first ?_
  refine w_icmp_ne (pc' := 32) (tgt := 38) dJ2_add_3_29 rfl rfl (fun q => ?_) (fun q => ?_)
  · exact go _ G1 j c e 1 100 fr a1 hA1 (by have := hA.2.1; omega)
  · refine w_aload_n (pc' := 33) dJ2_add_3_32 rfl rfl ?_
    -- at 33: .invokevirtual 129
    refine w_callV0 (pc' := 36) (mc := 1) (ms := 100) dJ2_add_3_33 rfl tJ2_grow q266 rfl rfl qs1 q264 a1 rfl (Nat.le_of_ble_eq_true rfl) (Nat.le_of_ble_eq_true rfl) ?_
    refine c_J2_grow a1 hA1 q (by omega) has (lel_fr hel fr) (fun G' c' q1 q2 q3 q4 => w_p1 ?_)
    refine w_ast4 (pc' := 38) dJ2_add_3_36 rfl rfl ?_
    -- at 38: .aload 4
    exact go _ G' (j + 1) c' _ 0 0 (lfr_t fr q1) q2 q3 q4
theorem c_J2_toArray {a : Int} {n : Nat} {r' : Rl} {f : Int → Option Rl} {ci : Nat} (hl : lst G a n f) (hr' : G r' = none) (h99 : r'.1 ≠ 99) (has : tv_as 5 ci) (hel : lel G n f ci)
    (h : ∀ f' : Int → Option Rl, (∀ i : Int, 0 ≤ i → i < n → f' i = f i) → K (some (xR r')) (gset G r' (xra 5 n f'))) : tvW mJ2_toArray (d + 3) K 0 [some (xR (lO a))] [] G 1 n := by
  obtain ⟨h0, mc, j, c, e, hO, hA⟩ := hl
  obtain ⟨hfree, hn, hc, hA⟩ := hA
  refine w_less (bc' := 0 + 1) (bs' := 0 + n) (by omega) (by omega) ?_
  refine w_aload_n (pc' := 1) dJ2_toArray_0 rfl rfl ?_
  refine w_get 1 (pc' := 4) dJ2_toArray_1 rfl fJ2_9_9 hO rfl ?_
  refine w_aload_n (pc' := 5) dJ2_toArray_4 rfl rfl ?_
  refine w_get 2 (pc' := 8) dJ2_toArray_5 rfl fJ2_48_9 hO rfl ?_
  -- at 8: .invokestatic 66
  refine w_callS2 (pc' := 11) (mc := 1) (ms := n) dJ2_toArray_8 rfl tJ7_copyOf q283 q282 rfl (Nat.le_of_ble_eq_true rfl) (Nat.le_of_ble_eq_true rfl) ?_
  rcases hA with ⟨rfl, g, hg, hf⟩ | ⟨rfl, hx⟩
  · refine c_J7_copyOf (ci := ci) (Or.inl hg) hr' h99 has ?_ (by omega) (by omega) (fun f' hf' => w_p1 ?_)
    · intro i h0 h1 h2 x hx
      obtain ⟨x', fs, e1, -, e2⟩ := hel i h0 (by omega)
      rw [hf i h0 (by omega), e1] at hx
      cases hx
      exact ⟨fs, e2⟩
    · refine w_Areturn dJ2_toArray_11 rfl ?_
      exact h f' (fun i h0 h1 => (hf' i h0 (by omega) h1).trans (hf i h0 h1))
  · refine c_J7_copyOf (ci := ci) (g := fun _ => none) (Or.inr ⟨rfl, hx⟩) hr' h99 has (fun i h0 h1 => by omega) (by omega) (by omega) (fun f' hf' => w_p1 ?_)
    refine w_Areturn dJ2_toArray_11 rfl ?_
    exact h f' (fun i h0 h1 => by omega)
theorem c_J0_init {r : Rl} (h : K none G) : tvW mJ0_init (d + 1) K 0 [some (xR r)] [] G bc bs := by
  refine w_aload_n (pc' := 1) dJ0_init_0 rfl rfl ?_
  -- at 1: .invokespecial 1
  refine w_objI (pc' := 4) dJ0_init_1 rfl q123 q110 q111 (Nat.le_of_ble_eq_true rfl) ?_
  refine w_return dJ0_init_4 rfl ?_
  exact h
theorem c_J1_init {r : Rl} {m0 : Int} {x y : XV} (hO : G r = some (xob 9 [xI m0, x, y])) (h : K none (gset G r (xob 9 [xI 0, x, y]))) : tvW mJ1_init (d + 2) K 0 [some (xR r)] [] G bc bs := by
  refine w_aload_n (pc' := 1) dJ1_init_0 rfl rfl ?_
  -- at 1: .invokespecial 1
  refine w_callI0 (pc' := 4) (mc := 0) (ms := 0) dJ1_init_1 rfl tJ0_init rfl rfl q121 (Or.inl q120) rfl (Nat.le_of_ble_eq_true rfl) (Nat.le_of_ble_eq_true rfl) ?_
  refine c_J0_init ?_
  refine w_p0 ?_
  refine w_aload_n (pc' := 5) dJ1_init_4 rfl rfl ?_
  refine w_iconst (pc' := 6) dJ1_init_5 rfl (by decide) ?_
  refine w_put 0 (pc' := 9) dJ1_init_6 rfl pJ1_7_9 (by decide) hO (Nat.le_of_ble_eq_true rfl) trivial ?_
  -- at 9: .return_
  refine w_return dJ1_init_9 rfl ?_
  exact h
theorem c_J2_init {a : Int} {f : Int → Option Rl} (hO : G (lO a) = some (xob 9 [xI 0, xN, xI 0])) (hF : ∀ j, G (lA a j) = none) (h : ∀ G', lfr a G G' → lst G' a 0 f → K none G') : tvW mJ2_init (d + 3) K 0 [some (xR (lO a))] [] G bc bs := by
  refine w_aload_n (pc' := 1) dJ2_init_0 rfl rfl ?_
  -- at 1: .invokespecial 1
  refine w_callI0 (pc' := 4) (mc := 0) (ms := 0) dJ2_init_1 rfl tJ1_init rfl rfl q118 (Or.inl q117) rfl (Nat.le_of_ble_eq_true rfl) (Nat.le_of_ble_eq_true rfl) ?_
  refine c_J1_init hO (w_p0 ?_)
  refine w_upd (fun G1 a1 f1 => ?_)
  refine w_aload_n (pc' := 5) dJ2_init_4 rfl rfl ?_
  refine w_gets (n := 0) (pc' := 8) dJ2_init_5 rfl q124 (Or.inl ⟨rfl, rfl⟩) ?_
  refine w_put 1 (pc' := 11) dJ2_init_8 rfl pJ2_9_9 (by decide) a1 (Nat.le_of_ble_eq_true rfl) trivial ?_
  -- at 11: .return_
  refine w_upd (fun G2 a2 f2 => ?_)
  refine w_return dJ2_init_11 rfl ?_
  refine h G2 (lfr_t (lfr_o f1) (lfr_o f2)) (lst_of (j := 0) (c := 0) (by omega) a2 ⟨fun j' _ => ?_, by omega, by omega, Or.inr ⟨rfl, Or.inl rfl⟩⟩)
  rw [f2 _ (rl_ne (by omega)), f1 _ (rl_ne (by omega))]
  exact hF j'
theorem c_J2_init_3 {a : Int} {m : Nat} {f : Int → Option Rl} (hO : G (lO a) = some (xob 9 [xI 0, xN, xI 0])) (hF : ∀ j, G (lA a j) = none) (hm : m ≤ 60) (h : ∀ G', lfr a G G' → lst G' a 0 f → K none G') : tvW mJ2_init_3 (d + 3) K 0 [some (xR (lO a)), some (xI m)] [] G 1 60 := by
  refine w_aload_n (pc' := 1) dJ2_init_3_0 rfl rfl ?_
  -- at 1: .invokespecial 1
  refine w_callI0 (pc' := 4) (mc := 0) (ms := 0) dJ2_init_3_1 rfl tJ1_init rfl rfl q118 (Or.inl q117) rfl (Nat.le_of_ble_eq_true rfl) (Nat.le_of_ble_eq_true rfl) ?_
  refine c_J1_init hO (w_p0 ?_)
  refine w_upd (fun G1 a1 f1 => ?_)
  have hF : ∀ j, G1 (lA a j) = none := fun j => (f1 _ (rl_ne (by omega))).trans (hF j)
  refine w_iload_n (pc' := 5) dJ2_init_3_4 rfl rfl ?_
  -- at 5: .ifCond .le 14
  refine w_if_le (pc' := 8) (tgt := 19) dJ2_init_3_5 rfl rfl (fun q => ?_) (fun q => ?_)
  · refine w_iload_n (pc' := 20) dJ2_init_3_19 rfl rfl ?_
    -- at 20: .ifCond .ne 13
    refine w_if_ne (pc' := 23) (tgt := 33) dJ2_init_3_20 rfl rfl (fun h_ => False.elim (by first | omega | (simp (decide := true) only [au_1, nu_2, au_lt, nu_lt, aw_e, nw_e, au_s, au_n, nu_s, nu_n, au_au, nu_nu, au_nu] at h_; omega))) (fun h_ => ?_)
    refine w_aload_n (pc' := 24) dJ2_init_3_23 rfl rfl ?_
    refine w_gets (n := 1) (pc' := 27) dJ2_init_3_24 rfl q414 (Or.inr ⟨rfl, rfl⟩) ?_
    refine w_put 1 (pc' := 30) dJ2_init_3_27 rfl pJ2_9_9 (by decide) a1 (Nat.le_of_ble_eq_true rfl) trivial ?_
    refine w_goto (tgt := 60) dJ2_init_3_30 rfl ?_
    -- at 60: .return_
    refine w_upd (fun G2 a2 f2 => ?_)
    refine w_return dJ2_init_3_60 rfl ?_
    exact h G2 (lfr_t (lfr_o f1) (lfr_o f2)) (lst_of (j := 0) (c := 0) (by omega) a2 ⟨fun j' _ => (f2 _ (rl_ne (by omega))).trans (hF j'), by omega, by omega, Or.inr ⟨rfl, Or.inr rfl⟩⟩)
  · have hF0 := hF 0
    refine w_less (bc' := 0 + 1) (bs' := 0 + m) (by omega) (by omega) ?_
    refine w_aload_n (pc' := 9) dJ2_init_3_8 rfl rfl ?_
    refine w_iload_n (pc' := 10) dJ2_init_3_9 rfl rfl ?_
    refine w_newr (t := 5) (lA a 0) m (pc' := 13) dJ2_init_3_10 rfl (by decide) rfl q314 q305 rfl (by omega) (by assumption) (by first | assumption | simp) ?_
    -- at 13: .putfield 9
    refine w_upd (fun G2 a2 f2 => ?_)
    have a1 := (f2 _ (rl_ne (by omega))).trans a1
    refine w_put 1 (pc' := 16) dJ2_init_3_13 rfl pJ2_9_9 (by decide) a1 (Nat.le_of_ble_eq_true rfl) trivial ?_
    refine w_goto (tgt := 60) dJ2_init_3_16 rfl ?_
    -- at 60: .return_
    refine w_upd (fun G3 a3 f3 => ?_)
    have a2 := (f3 _ (rl_ne (by omega))).trans a2
    refine w_return dJ2_init_3_60 rfl ?_
    refine h G3 (lfr_t (lfr_o f1) (lfr_t (lfr_a f2) (lfr_o f3))) (lst_of (j := 0) (c := m) (by omega) a3 ⟨fun j' _ => ?_, by omega, by omega, Or.inl ⟨rfl, _, a2, fun i h0 h1 => by omega⟩⟩)
    rw [f3 _ (rl_ne (by omega)), f2 _ (rl_ne (by omega))]
    exact hF j'
theorem c_J2_init_2 {a b : Int} {n : Nat} {f : Int → Option Rl} {ci : Nat} (hO : G (lO a) = some (xob 9 [xI 0, xN, xI 0])) (hF : ∀ j, G (lA a j) = none) (hab : a ≠ b) (hl : lst G b n f) (hn : n ≤ 60) (has : tv_as 5 ci) (hel : lel G n f ci) (h : ∀ G', lfr a G G' → lst G' a n f → K none G') : tvW mJ2_init_2 (d + 4) K 0 [some (xR (lO a)), some (xR (lO b)), none] [] G 1 60 := by
  refine w_aload_n (pc' := 1) dJ2_init_2_0 rfl rfl ?_
  -- at 1: .invokespecial 1
  refine w_callI0 (pc' := 4) (mc := 0) (ms := 0) dJ2_init_2_1 rfl tJ1_init rfl rfl q118 (Or.inl q117) rfl (Nat.le_of_ble_eq_true rfl) (Nat.le_of_ble_eq_true rfl) ?_
  refine c_J1_init hO (w_p0 ?_)
  refine w_upd (fun G1 a1 f1 => ?_)
  have hF : ∀ j, G1 (lA a j) = none := fun j => (f1 _ (rl_ne (by omega))).trans (hF j)
  have hl := lst_fr hab (lfr_o f1) hl
  have hel := lel_fr hel (lfr_o f1)
  have hb : ∃ fs, G1 (lO b) = some (xob 9 fs) := by
    obtain ⟨-, mc, j, c, e, hO, -⟩ := hl
    exact ⟨_, hO⟩
  obtain ⟨fs, hb⟩ := hb
  refine w_less (bc' := 0 + 1) (bs' := 0 + n) (by omega) (by omega) ?_
  refine w_aload_n (pc' := 5) dJ2_init_2_4 rfl rfl ?_
  -- at 5: .invokeinterface 42 1
  refine w_callF (pc' := 10) (mc := 1) (ms := n) dJ2_init_2_5 rfl tJ2_toArray q396 hb rfl (Nat.le_of_ble_eq_true rfl) (Nat.le_of_ble_eq_true rfl) ?_
  refine c_J2_toArray hl (hF 0) (by simp) has hel (fun f' hf' => w_p1 ?_)
  refine w_upd (fun G2 a2 f2 => ?_)
  have a1 := (f2 _ (rl_ne (by omega))).trans a1
  have hb := (f2 _ (rl_ne (by omega))).trans hb
  refine w_ast2 (pc' := 11) dJ2_init_2_10 rfl rfl ?_
  refine w_aload_n (pc' := 12) dJ2_init_2_11 rfl rfl ?_
  refine w_aload_n (pc' := 13) dJ2_init_2_12 rfl rfl ?_
  -- at 13: .arraylength
  refine w_alenR (pc' := 14) dJ2_init_2_13 rfl a2 ?_
  refine w_dup_x1 (pc' := 15) dJ2_init_2_14 rfl rfl rfl ?_
  refine w_put 2 (pc' := 18) dJ2_init_2_15 rfl pJ2_48_9 (by decide) a1 (Nat.le_of_ble_eq_true rfl) trivial ?_
  -- at 18: .ifCond .eq 39
  refine w_upd (fun G3 a3 f3 => ?_)
  have a2 := (f3 _ (rl_ne (by omega))).trans a2
  have hb := (f3 _ (rl_ne (by omega))).trans hb
  refine w_if_eq (pc' := 21) (tgt := 57) dJ2_init_2_18 rfl rfl (fun q => ?_) (fun q => ?_)
  · refine w_aload_n (pc' := 58) dJ2_init_2_57 rfl rfl ?_
    refine w_gets (n := 1) (pc' := 61) dJ2_init_2_58 rfl q414 (Or.inr ⟨rfl, rfl⟩) ?_
    refine w_put 1 (pc' := 64) dJ2_init_2_61 rfl pJ2_9_9 (by decide) a3 (Nat.le_of_ble_eq_true rfl) trivial ?_
    -- at 64: .return_
    refine w_upd (fun G4 a4 f4 => ?_)
    have a2 := (f4 _ (rl_ne (by omega))).trans a2
    refine w_return dJ2_init_2_64 rfl ?_
    refine h G4 (lfr_t (lfr_o f1) (lfr_t (lfr_a f2) (lfr_t (lfr_o f3) (lfr_o f4)))) (lst_of (j := 0) (c := 0) (by omega) a4 ⟨fun j' hj => ?_, by omega, by omega, Or.inr ⟨rfl, Or.inr rfl⟩⟩)
    rw [f4 _ (rl_ne (by omega)), f3 _ (rl_ne (by omega)), f2 _ (rl_ne (by omega))]
    exact hF j'
  · refine w_aload_n (pc' := 22) dJ2_init_2_21 rfl rfl ?_
    -- at 22: .invokeinterface 52 1
    refine w_getCI (pc' := 27) dJ2_init_2_22 rfl q406 hb (Nat.le_of_ble_eq_true rfl) ?_
    refine w_ldcM (n := 2) (pc' := 29) dJ2_init_2_27 rfl q411 (Or.inl ⟨rfl, rfl⟩) ?_
    -- at 29: .if_acmp .ne 11
    refine w_acmpS_ne (pc' := 32) (tgt := 40) dJ2_init_2_29 rfl rfl ?_
    refine w_aload_n (pc' := 33) dJ2_init_2_32 rfl rfl ?_
    refine w_aload_n (pc' := 34) dJ2_init_2_33 rfl rfl ?_
    refine w_put 1 (pc' := 37) dJ2_init_2_34 rfl pJ2_9_9 (by decide) a3 (Nat.le_of_ble_eq_true rfl) trivial ?_
    refine w_goto (tgt := 64) dJ2_init_2_37 rfl ?_
    -- at 64: .return_
    refine w_upd (fun G4 a4 f4 => ?_)
    have a2 := (f4 _ (rl_ne (by omega))).trans a2
    refine w_return dJ2_init_2_64 rfl ?_
    refine h G4 (lfr_t (lfr_o f1) (lfr_t (lfr_a f2) (lfr_t (lfr_o f3) (lfr_o f4)))) (lst_of (j := 0) (c := n) (by omega) a4 ⟨fun j' hj => ?_, by omega, by omega, Or.inl ⟨rfl, _, a2, hf'⟩⟩)
    rw [f4 _ (rl_ne (by omega)), f3 _ (rl_ne (by omega)), f2 _ (rl_ne (by omega))]
    exact hF j'
end
