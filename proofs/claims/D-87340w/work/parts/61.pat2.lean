set_option maxRecDepth 10000
/-! the same world seen from another state that tells the same there -/
theorem Rkin_c {σ τ : MS} {G : GH} (e5 : τ.1 5 = σ.1 5) (e0 : τ.2 0 = σ.2 0) (e1 : τ.2 1 = σ.2 1) (e2 : τ.2 2 = σ.2 2) (e3 : τ.2 3 = σ.2 3) (e4 : τ.2 4 = σ.2 4) (h : Rkin σ G) : Rkin τ G := by
  unfold Rkin at *
  rw [e5, e0, e1, e2, e3, e4]
  exact h
theorem Rrow_c {σ τ : MS} {G : GH} (e9 : τ.1 9 = σ.1 9) (e6 : τ.2 6 = σ.2 6) (e7 : τ.2 7 = σ.2 7) (e8 : τ.2 8 = σ.2 8) (h : Rrow σ G) : Rrow τ G := by
  unfold Rrow at *
  rw [e9, e6, e7, e8]
  exact h
theorem Rchg_c {σ τ : MS} {G : GH} {cl : Int → Int} (e16 : τ.1 16 = σ.1 16) (e17 : τ.1 17 = σ.1 17) (e13 : τ.2 13 = σ.2 13) (e14 : τ.2 14 = σ.2 14) (e15 : τ.2 15 = σ.2 15) (h : Rchg σ G cl) : Rchg τ G cl := by
  unfold Rchg usl us_ at *
  rw [e16, e17, e13, e14, e15]
  exact h
theorem Rreg_c {σ τ : MS} {G : GH} {rg : Option Rl} {b : Int} (e24 : τ.1 24 = σ.1 24) (e25 : τ.1 25 = σ.1 25) (e20 : τ.2 20 = σ.2 20) (e22 : τ.2 22 = σ.2 22) (h : Rreg σ G rg b) : Rreg τ G rg b := by
  unfold Rreg at *
  rw [e24, e25, e20, e22]
  exact h
theorem Rrul_c {σ τ : MS} {G : GH} (e29 : τ.1 29 = σ.1 29) (e26 : τ.2 26 = σ.2 26) (e27 : τ.2 27 = σ.2 27) (e28 : τ.2 28 = σ.2 28) (h : Rrul σ G) : Rrul τ G := by
  unfold Rrul uB at *
  rw [e29, e26, e27, e28]
  exact h
theorem Rflo_c {σ τ : MS} {G : GH} (e40 : τ.1 40 = σ.1 40) (e35 : τ.2 35 = σ.2 35) (e36 : τ.2 36 = σ.2 36) (e37 : τ.2 37 = σ.2 37) (e38 : τ.2 38 = σ.2 38) (e39 : τ.2 39 = σ.2 39) (h : Rflo σ G) : Rflo τ G := by
  unfold Rflo isB lyB at *
  rw [e40, e35, e36, e37, e38, e39]
  exact h
/-- a new pattern comes behind the others: its list is number N -/
theorem Rx_npat {σ τ : MS} {pl cl : Int → Int} {N N' M b : Int} {rg : Option Rl} {G G' : GH} (hw : Rx σ (pl, cl, N, b, rg) G) (hk0 : 0 ≤ σ.1 5) (hm0 : 0 ≤ σ.1 9) (hp0 : 0 ≤ σ.1 12) (hr0 : 0 ≤ σ.1 29) (hf0 : 0 ≤ σ.1 40) (hM : N ≤ M ∧ M < N')
    (hn : ∀ k, k ≠ 12 → τ.1 k = σ.1 k) (ha : ∀ k, k ≠ 10 → k ≠ 11 → τ.2 k = σ.2 k) (e12 : τ.1 12 = σ.1 12 + 1) (old : ∀ p, 0 ≤ p → p < σ.1 12 → τ.2 11 p = σ.2 11 p ∧ ∀ i, 0 ≤ i → i < σ.2 11 p → rw_ τ p i = rw_ σ p i)
    (ch : ∀ q : Rl, q ≠ pO (σ.1 12) → ¬ ((q.1 = 30 ∨ q.1 = 31) ∧ (N ≤ q.2.1 ∧ q.2.1 < N' ∨ q.2.1 = -2)) → G' q = G q) (l2 : lst G' (-2) (σ.1 12 + 1) (fun p => some (pO p))) (hP : G' (pO (σ.1 12)) = some (xob 3 [xR (lO M)])) (lN : lst G' M (τ.2 11 (σ.1 12)) (fun i => some (rO (rw_ τ (σ.1 12) i)))) : Rx τ (iset pl (σ.1 12) M, cl, N', b, rg) G' := by
  obtain ⟨hx1, hx2, hx3, hx4, hx5, hx6, hx7, hx8, hx9, hx10, hx11⟩ := Rx_un hw
  obtain ⟨i1, i2, i3, i4, i5, i6, i7⟩ := hx11
  have ch2 : ∀ q : Rl, q.1 ≠ 18 → ¬ ((q.1 = 30 ∨ q.1 = 31) ∧ (N ≤ q.2.1 ∧ q.2.1 < N' ∨ q.2.1 = -2)) → G' q = G q := fun q q1 q2 => ch q (fun z => q1 (by rw [z])) q2
  have g1 : off G' (τ.1 16) (τ.1 9) (τ.1 41) rg := by
    rw [hn 16 (by decide), hn 9 (by decide), hn 41 (by decide)]
    exact (ch2 oR (by decide) (by simp only []; omega)).trans hx1
  have g4 : Rpat τ G' (iset pl (σ.1 12) M) := by
    refine ⟨by rw [e12]; exact l2, fun p p0 p1 => ?_⟩
    rw [e12] at p1
    unfold iset
    by_cases e : p = σ.1 12
    · rw [if_pos e, e]
      exact ⟨hP, lN⟩
    · rw [if_neg e]
      obtain ⟨a1, a2⟩ := hx4.2 p p0 (by omega)
      obtain ⟨o1, o2⟩ := old p p0 (by omega)
      have hb := i3 p p0 (by omega)
      refine ⟨(ch _ (rl_ne (by omega)) (by simp only []; omega)).trans a1, ?_⟩
      rw [o1]
      refine lst_c (fun i i0 i1 => ?_) (lst_of_fr (fun q q1 q2 => ch2 q (by omega) (by omega)) a2)
      rw [o2 i i0 i1]
  have g10 : fre τ N' G' := fre_ch (σ := σ) (k := σ.1 5) (m := σ.1 9) (p := σ.1 12 + 1) (r := σ.1 29) (f := σ.1 40) (hn 5 (by decide)) (hn 9 (by decide)) e12 (hn 29 (by decide)) (hn 40 (by decide)) (Int.le_refl _) (Int.le_refl _) (by omega) (Int.le_refl _) (Int.le_refl _) (by omega) (fun q hq => ch q (fun z => by rw [z] at hq; unfold frq at hq; simp only [] at hq; omega) (by unfold frq at hq; omega)) hx10
  have g11 : ids τ (iset pl (σ.1 12) M) cl N' b := by
    unfold ids iset
    rw [e12, hn 16 (by decide), hn 24 (by decide)]
    refine ⟨by omega, by omega, fun p p0 p1 => ?_, fun t t0 t1 => ?_, fun p q p0 p1 q0 q1 e => ?_, i6, fun p t p0 p1 t0 t1 => ?_⟩
    · split
      · omega
      · have := i3 p p0 (by omega)
        omega
    · have := i4 t t0 t1
      omega
    · split at e
      · split at e
        · omega
        · have := i3 q q0 (by omega)
          omega
      · split at e
        · have := i3 p p0 (by omega)
          omega
        · exact i5 p q p0 (by omega) q0 (by omega) e
    · split
      · have := i4 t t0 t1
        omega
      · exact i7 p t p0 (by omega) t0 t1
  exact Rx_mk g1 (Rkin_c (hn 5 (by decide)) (ha 0 (by decide) (by decide)) (ha 1 (by decide) (by decide)) (ha 2 (by decide) (by decide)) (ha 3 (by decide) (by decide)) (ha 4 (by decide) (by decide)) (Rkin_fr2 (fun q hq => ch2 q (by omega) (by omega)) hx2)) (Rrow_c (hn 9 (by decide)) (ha 6 (by decide) (by decide)) (ha 7 (by decide) (by decide)) (ha 8 (by decide) (by decide)) (Rrow_fr (fun q hq _ _ => ch2 q (by omega) (by omega)) hx3)) g4 (Rchg_c (hn 16 (by decide)) (hn 17 (by decide)) (ha 13 (by decide) (by decide)) (ha 14 (by decide) (by decide)) (ha 15 (by decide) (by decide)) (Rchg_fr (ch2 _ (by decide) (by simp only []; omega)) (fun t _ _ => ch2 _ (by simp only []; omega) (by simp only []; omega)) (fun t t0 t1 q hq e => ch2 q (by omega) (by have := i4 t t0 t1; omega)) hx5)) (Rreg_c (hn 24 (by decide)) (hn 25 (by decide)) (ha 20 (by decide) (by decide)) (ha 22 (by decide) (by decide)) (Rreg_fr (fun q hq _ => ch2 q (by omega) (by omega)) hx6)) (Rrul_c (hn 29 (by decide)) (ha 26 (by decide) (by decide)) (ha 27 (by decide) (by decide)) (ha 28 (by decide) (by decide)) (Rrul_fr (fun q hq => ch2 q (by omega) (by omega)) hx7)) (Rflo_c (hn 40 (by decide)) (ha 35 (by decide) (by decide)) (ha 36 (by decide) (by decide)) (ha 37 (by decide) (by decide)) (ha 38 (by decide) (by decide)) (ha 39 (by decide) (by decide)) (Rflo_fr (fun q hq => ch2 q (by omega) (by omega)) hx8)) (Rscr_fr (fun q hq => ch2 q (by omega) (by omega)) hx9) g10 g11
section
variable {d : Nat} {K : Option XV → GH → Prop} {G0 G : GH} {bc bs : Nat} {σ : MS} {w : RW}
theorem lel_p {σ : MS} {G : GH} {pl : Int → Int} (h : Rpat σ G pl) : lel G (σ.1 12) (fun k => some (pO k)) 3 := fun i i0 i1 => ⟨_, _, rfl, Or.inl (by decide : (18 : Nat) < 30), (h.2 i i0 i1).1⟩
theorem c_X0_pattern (hw : Rx σ w G) (hK : kok σ) (hR : rok σ) (hP : pok σ) (hr0 : 0 ≤ σ.1 29) (hf0 : 0 ≤ σ.1 40) (h1 : σ.1 12 < 16 → ∀ G', tfr G G' → Rel (nu (au σ 11 (iset (σ.2 11) (σ.1 12) 0)) 12 (σ.1 12 + 1)) G' → K (some (xI (σ.1 12))) G') (h0 : σ.1 12 = 16 → K (some (xI (-1))) G) : tvW mX0_pattern (d + 7) K 0 [some (xR oR)] [] G 3 104 := by
  obtain ⟨pl, cl, N, b, rg⟩ := w
  obtain ⟨hx1, hx2, hx3, hx4, hx5, hx6, hx7, hx8, hx9, hx10, hx11⟩ := Rx_un hw
  have hof := hx1
  unfold off at hof
  have hN := hx11.1
  have hp := hP.1
  obtain ⟨lf, hl⟩ := lst_o hx4.1
  refine w_aload_n (pc' := 1) dX0_pattern_0 rfl rfl ?_
  refine w_get 1 (pc' := 4) dX0_pattern_1 rfl fX0_16_0 hof rfl ?_
  -- at 4: .invokevirtual 54
  refine w_callV0 (pc' := 7) (mc := 0) (ms := 0) dX0_pattern_4 rfl tJ2_size q207 rfl rfl q208 q206 hl rfl (Nat.le_of_ble_eq_true rfl) (Nat.le_of_ble_eq_true rfl) ?_
  refine c_J2_size hx4.1 ?_
  refine w_p1 ?_
  refine w_bipush (pc' := 9) dX0_pattern_7 rfl (by decide +kernel) (by decide) ?_
  -- at 9: .if_icmp .ne 5
  refine w_icmp_ne (pc' := 12) (tgt := 14) dX0_pattern_9 rfl rfl (fun g => ?_) (fun g => ?_)
  · have hfp : G (pO (σ.1 12)) = none := fre_iff.mp hx10 _ (Or.inr (Or.inr (Or.inr (Or.inr (Or.inl ⟨rfl, Int.le_refl _⟩)))))
    have hfN : G (lO N) = none := fre_iff.mp hx10 _ (by unfold frq; simp only []; omega)
    have hfA : ∀ j, G (lA N j) = none := fun j => fre_iff.mp hx10 _ (by unfold frq; simp only []; omega)
    refine w_aload_n (pc' := 15) dX0_pattern_14 rfl rfl ?_
    refine w_get 1 (pc' := 18) dX0_pattern_15 rfl fX0_16_0 hof rfl ?_
    refine w_new (N := 1) (pO (σ.1 12)) (pc' := 21) dX0_pattern_18 rfl nX0_62 (by assumption) (by first | assumption | simp) ?_
    -- at 21: .dup
    refine w_upd (fun G1 a1 f1 => ?_)
    have hfN := (f1 _ (rl_ne (by omega))).trans hfN
    have hfA : ∀ j, G1 (lA N j) = none := fun j => (f1 _ (rl_ne (by omega))).trans (hfA j)
    refine w_dup (pc' := 22) dX0_pattern_21 rfl rfl ?_
    -- at 22: .invokespecial 121
    refine w_callI0 (pc' := 25) (mc := 1) (ms := 3) dX0_pattern_22 rfl tX4_init rfl rfl q358 (Or.inr ⟨_, q357⟩) rfl (Nat.le_of_ble_eq_true rfl) (Nat.le_of_ble_eq_true rfl) ?_
    refine c_X4_init (f := fun i => some (rO (rw_ (nu (au σ 11 (iset (σ.2 11) (σ.1 12) 0)) 12 (σ.1 12 + 1)) (σ.1 12) i))) a1 (by decide : (18 : Nat) < 30) hfN hfA (fun G2 f2 o2 l2 => w_p0 ?_)
    have ch2 : ∀ q : Rl, q ≠ pO (σ.1 12) → ¬ ((q.1 = 30 ∨ q.1 = 31) ∧ q.2.1 = N) → G2 q = G q := fun q q1 q2 => (f2 q q1 q2).trans (f1 q q1)
    have lp : lst G2 (-2) (σ.1 12) (fun p => some (pO p)) := lst_of_fr (fun q q1 q2 => ch2 q (fun z => by rw [z] at q1; simp only [] at q1; omega) (by omega)) hx4.1
    have lelp : lel G2 (σ.1 12) (fun p => some (pO p)) 3 := fun i i0 i1 => ⟨_, _, rfl, Or.inl (by decide : (18 : Nat) < 30), (ch2 _ (rl_ne (by omega)) (by simp only []; omega)).trans (hx4.2 i i0 i1).1⟩
    obtain ⟨lf2, hl2⟩ := lst_o lp
    refine w_callV1 (pc' := 28) (mc := 1) (ms := 100) dX0_pattern_25 rfl tJ2_add q257 rfl rfl q258 q256 hl2 rfl (Nat.le_of_ble_eq_true rfl) (Nat.le_of_ble_eq_true rfl) ?_
    refine c_J2_add lp (by omega) ⟨_, rfl, Or.inr ⟨_, rfl, q1585⟩⟩ lelp o2 (Or.inl (by decide : (18 : Nat) < 30)) (fun G3 f3 l3 => w_p1 ?_)
    have hof := ((f3 oR (by simp only []; omega)).trans (ch2 oR (rl_ne (by omega)) (by simp only []; omega))).trans hof
    have l3 : lst G3 (-2) (σ.1 12 + 1) (fun k => some (pO k)) := lst_c (fun i _ _ => by unfold rset; split <;> simp [*]) l3
    obtain ⟨lf3, hl3⟩ := lst_o l3
    refine w_pop (pc' := 29) dX0_pattern_28 rfl rfl ?_
    refine w_aload_n (pc' := 30) dX0_pattern_29 rfl rfl ?_
    refine w_get 1 (pc' := 33) dX0_pattern_30 rfl fX0_16_0 hof rfl ?_
    -- at 33: .invokevirtual 54
    refine w_callV0 (pc' := 36) (mc := 0) (ms := 0) dX0_pattern_33 rfl tJ2_size q207 rfl rfl q208 q206 hl3 rfl (Nat.le_of_ble_eq_true rfl) (Nat.le_of_ble_eq_true rfl) ?_
    refine c_J2_size l3 ?_
    refine w_p1 ?_
    refine w_iconst (pc' := 37) dX0_pattern_36 rfl (by decide) ?_
    refine w_isub (pc' := 38) dX0_pattern_37 rfl ⟨by first | omega | (simp (decide := true) only [au_1, nu_2, au_lt, nu_lt, aw_e, nw_e, au_s, au_n, nu_s, nu_n, au_au, nu_nu, au_nu]; omega), by first | omega | (simp (decide := true) only [au_1, nu_2, au_lt, nu_lt, aw_e, nw_e, au_s, au_n, nu_s, nu_n, au_au, nu_nu, au_nu]; omega)⟩ ?_
    -- at 38: .ireturn
    refine w_ireturn dX0_pattern_38 rfl ?_
    rw [show σ.1 12 + 1 - 1 = σ.1 12 by omega]
    have ch3 : ∀ q : Rl, q ≠ pO (σ.1 12) → ¬ ((q.1 = 30 ∨ q.1 = 31) ∧ (q.2.1 = N ∨ q.2.1 = -2)) → G3 q = G q := fun q q1 q2 => (f3 q (by omega)).trans (ch2 q q1 (by omega))
    refine h1 (by omega) G3 (fun q hq => ch3 q (fun z => by rw [z] at hq; simp only [] at hq; omega) (by omega)) ⟨_, Rx_npat (N' := N + 1) hw hK.1.1 hR.1.1 hp.1 hr0 hf0 ⟨Int.le_refl _, by omega⟩ ?_ ?_ rfl ?_ (fun q q1 q2 => ch3 q q1 (by omega)) l3 ((f3 _ (by simp only []; omega)).trans o2) ?_⟩
    · intro k hk
      exact if_neg hk
    · intro k _ hk
      exact if_neg hk
    · intro p p0 p1
      refine ⟨if_neg (by omega), fun i _ _ => rfl⟩
    · show lst G3 N (iset (σ.2 11) (σ.1 12) 0 (σ.1 12)) _
      rw [show iset (σ.2 11) (σ.1 12) 0 (σ.1 12) = 0 from if_pos rfl]
      exact lst_fr (by omega) f3 l2
  · refine w_iconst (pc' := 13) dX0_pattern_12 rfl (by decide) ?_
    -- at 13: .ireturn
    refine w_ireturn dX0_pattern_13 rfl ?_
    exact h0 g
end
