set_option maxRecDepth 10000
section
variable {d : Nat} {K : Option XV → GH → Prop} {G0 G : GH} {bc bs : Nat} {σ : MS} {w : RW}
theorem c_X0_copy {p : Int} (hw : Rx σ w G) (hK : kok σ) (hR : rok σ) (hP : pok σ) (hr0 : 0 ≤ σ.1 29) (hf0 : 0 ≤ σ.1 40) (h1 : (0 ≤ p ∧ p < σ.1 12) ∧ σ.1 12 < 16 → ∀ G', tfr G G' → Rel (sCopy σ p) G' → K (some (xI (σ.1 12))) G') (h0 : ¬ ((0 ≤ p ∧ p < σ.1 12) ∧ σ.1 12 < 16) → K (some (xI (-1))) G) : tvW mX0_copy (d + 7) K 0 [some (xR oR), some (xI p), none, none] [] G 5 167 := by
  obtain ⟨pl, cl, N, b, rg⟩ := w
  obtain ⟨hx1, hx2, hx3, hx4, hx5, hx6, hx7, hx8, hx9, hx10, hx11⟩ := Rx_un hw
  have hof := hx1
  unfold off at hof
  have hN := hx11.1
  have hp1 := hP.1
  obtain ⟨lf, hl⟩ := lst_o hx4.1
  have bad : ∀ o, ¬ ((0 ≤ p ∧ p < σ.1 12) ∧ σ.1 12 < 16) → tvW mX0_copy (d + 7) K 22 [some (xR oR), some (xI p), some (xO o), none] [] G 5 167 := by
    intro o q
    refine w_iconst (pc' := 23) dX0_copy_22 rfl (by decide) ?_
    -- at 23: .ireturn
    refine w_ireturn dX0_copy_23 rfl ?_
    exact h0 q
  refine w_aload_n (pc' := 1) dX0_copy_0 rfl rfl ?_
  refine w_iload_n (pc' := 2) dX0_copy_1 rfl rfl ?_
  -- at 2: .invokevirtual 150
  refine w_callV1 (pc' := 5) (mc := 0) (ms := 0) dX0_copy_2 rfl tX0_pattern_2 q375 rfl rfl qs4 q373 hof rfl (Nat.le_of_ble_eq_true rfl) (Nat.le_of_ble_eq_true rfl) ?_
  refine c_X0_pattern_2 hw (fun p0 p1 => w_p1 ?_) (fun g => w_p1 ?_)
  · refine w_ast2 (pc' := 6) dX0_copy_5 rfl rfl ?_
    refine w_aload_n (pc' := 7) dX0_copy_6 rfl rfl ?_
    -- at 7: .ifnull 15
    refine w_ifnull (pc' := 10) (tgt := 22) dX0_copy_7 rfl rfl (fun h_ => False.elim (nomatch h_)) (fun h_ => ?_)
    refine w_aload_n (pc' := 11) dX0_copy_10 rfl rfl ?_
    refine w_get 1 (pc' := 14) dX0_copy_11 rfl fX0_16_0 hof rfl ?_
    -- at 14: .invokevirtual 54
    refine w_callV0 (pc' := 17) (mc := 0) (ms := 0) dX0_copy_14 rfl tJ2_size q207 rfl rfl q208 q206 hl rfl (Nat.le_of_ble_eq_true rfl) (Nat.le_of_ble_eq_true rfl) ?_
    refine c_J2_size hx4.1 ?_
    refine w_p1 ?_
    refine w_bipush (pc' := 19) dX0_copy_17 rfl (by decide +kernel) (by decide) ?_
    -- at 19: .if_icmp .ne 5
    refine w_icmp_ne (pc' := 22) (tgt := 24) dX0_copy_19 rfl rfl (fun g => ?_) (fun g => ?_)
    · have hpr := Rx_prw hw hR hP p0 p1
      have hpr : prw G (pl p) (σ.2 11 p) (rw_ σ p) (fun i => σ.2 6 (rw_ σ p i)) (fun i => σ.2 7 (rw_ σ p i)) (fun i k => σ.2 8 (60 * rw_ σ p i + k)) := hpr
      obtain ⟨hPo, hPl⟩ := hx4.2 p p0 p1
      have hM := (hP.2 p p0 p1).1
      have hpl := hx11.2.2.1 p p0 p1
      obtain ⟨n, hn⟩ : ∃ n : Nat, (n : Int) = σ.2 11 p := ⟨(σ.2 11 p).toNat, by omega⟩
      rw [← hn] at hPl
      have hfp : G (pO (σ.1 12)) = none := fre_iff.mp hx10 _ (Or.inr (Or.inr (Or.inr (Or.inr (Or.inl ⟨rfl, Int.le_refl _⟩)))))
      have hfN : ∀ z, N ≤ z → ∀ j, G (30, z, j) = none := fun z hz j => fre_iff.mp hx10 _ (by unfold frq; simp only []; omega)
      have hfA : ∀ z, N ≤ z → ∀ j, G (lA z j) = none := fun z hz j => fre_iff.mp hx10 _ (by unfold frq; simp only []; omega)
      have hfN0 := hfN N (by omega) 0
      have hfN1 := hfN (N + 1) (by omega) 0
      refine w_new (N := 1) (pO (σ.1 12)) (pc' := 27) dX0_copy_24 rfl nX0_62 (by assumption) (by first | assumption | simp) ?_
      -- at 27: .dup
      refine w_upd (fun G1 a1 f1 => ?_)
      have hfN0 := (f1 _ (rl_ne (by omega))).trans hfN0
      have hfN1 := (f1 _ (rl_ne (by omega))).trans hfN1
      refine w_dup (pc' := 28) dX0_copy_27 rfl rfl ?_
      -- at 28: .invokespecial 121
      refine w_callI0 (pc' := 31) (mc := 1) (ms := 3) dX0_copy_28 rfl tX4_init rfl rfl q358 (Or.inr ⟨_, q357⟩) rfl (Nat.le_of_ble_eq_true rfl) (Nat.le_of_ble_eq_true rfl) ?_
      refine c_X4_init (f := fun _ => none) a1 (by decide : (18 : Nat) < 30) hfN0 (fun j => (f1 _ (rl_ne (by omega))).trans (hfA N (by omega) j)) (fun G2 f2 o2 l2 => w_p0 ?_)
      have ch2 : ∀ q : Rl, q ≠ pO (σ.1 12) → ¬ ((q.1 = 30 ∨ q.1 = 31) ∧ q.2.1 = N) → G2 q = G q := fun q q1 q2 => (f2 q q1 q2).trans (f1 q q1)
      have hfN1 := (f2 _ (rl_ne (by omega)) (by simp only []; omega)).trans hfN1
      refine w_ast3 (pc' := 32) dX0_copy_31 rfl rfl ?_
      refine w_aload_n (pc' := 33) dX0_copy_32 rfl rfl ?_
      refine w_new (N := 3) (lO (N + 1)) (pc' := 36) dX0_copy_33 rfl nX0_7 (by assumption) (by first | assumption | simp) ?_
      -- at 36: .dup
      refine w_upd (fun G3 a3 f3 => ?_)
      have o2 := (f3 _ (rl_ne (by omega))).trans o2
      have ch3 : ∀ q : Rl, q ≠ pO (σ.1 12) → ¬ ((q.1 = 30 ∨ q.1 = 31) ∧ (q.2.1 = N ∨ q.2.1 = N + 1)) → G3 q = G q := fun q q1 q2 => (f3 q (fun z => q2 (by rw [z]; exact ⟨Or.inl rfl, Or.inr rfl⟩))).trans (ch2 q q1 (by omega))
      have hPo3 := (ch3 (pO p) (rl_ne (by omega)) (by simp only []; omega)).trans hPo
      have hPl3 := lst_of_fr (G' := G3) (fun q q1 q2 => ch3 q (fun z => by rw [z] at q1; simp only [] at q1; omega) (by omega)) hPl
      have hel : lel G n (fun i => some (rO (rw_ σ p i))) 5 := by rw [hn]; exact prw_el hpr
      have hel3 : lel G3 n (fun i => some (rO (rw_ σ p i))) 5 := by
        intro i i0 i1
        obtain ⟨x, fs, e1, e2, e3⟩ := hel i i0 i1
        cases e1
        exact ⟨_, fs, rfl, e2, (ch3 _ (rl_ne (by omega)) (by simp only []; omega)).trans e3⟩
      have hfA1 : ∀ j, G3 (lA (N + 1) j) = none := fun j => ((f3 _ (rl_ne (by omega))).trans (ch2 _ (rl_ne (by omega)) (by simp only []; omega))).trans (hfA (N + 1) (by omega) j)
      refine w_dup (pc' := 37) dX0_copy_36 rfl rfl ?_
      refine w_aload_n (pc' := 38) dX0_copy_37 rfl rfl ?_
      refine w_get 0 (pc' := 41) dX0_copy_38 rfl fX0_140_3 hPo3 rfl ?_
      -- at 41: .invokespecial 197
      refine w_callI1 (pc' := 44) (mc := 1) (ms := 60) dX0_copy_41 rfl tJ2_init_2 rfl rfl q393 (Or.inl q544) rfl (Nat.le_of_ble_eq_true rfl) (Nat.le_of_ble_eq_true rfl) ?_
      refine c_J2_init_2 (ci := 5) a3 hfA1 (by omega) hPl3 (by omega) ⟨_, rfl, Or.inr ⟨_, rfl, q1586⟩⟩ hel3 (fun G4 f4 l4 => w_p0 ?_)
      have o2 := (f4 (pO (σ.1 12)) (by simp only []; omega)).trans o2
      refine w_put 0 (pc' := 47) dX0_copy_44 rfl pX0_140_3 (by decide) o2 (Nat.le_of_ble_eq_true rfl) trivial ?_
      -- at 47: .aload_n 0
      refine w_upd (fun G5 a5 f5 => ?_)
      have ch5 : ∀ q : Rl, q ≠ pO (σ.1 12) → ¬ ((q.1 = 30 ∨ q.1 = 31) ∧ (q.2.1 = N ∨ q.2.1 = N + 1)) → G5 q = G q := fun q q1 q2 => ((f5 q q1).trans (f4 q (by omega))).trans (ch3 q q1 q2)
      have l5 : lst G5 (N + 1) n (fun i => some (rO (rw_ σ p i))) := lst_of_fr (fun q q1 q2 => f5 q (fun z => by rw [z] at q1; simp only [] at q1; omega)) l4
      have hof := (ch5 oR (rl_ne (by omega)) (by simp only []; omega)).trans hof
      have lp : lst G5 (-2) (σ.1 12) (fun p => some (pO p)) := lst_of_fr (fun q q1 q2 => ch5 q (fun z => by rw [z] at q1; simp only [] at q1; omega) (by omega)) hx4.1
      have lelp : lel G5 (σ.1 12) (fun p => some (pO p)) 3 := fun i i0 i1 => ⟨_, _, rfl, Or.inl (by decide : (18 : Nat) < 30), (ch5 _ (rl_ne (by omega)) (by simp only []; omega)).trans (hx4.2 i i0 i1).1⟩
      obtain ⟨lf5, hl5⟩ := lst_o lp
      refine w_aload_n (pc' := 48) dX0_copy_47 rfl rfl ?_
      refine w_get 1 (pc' := 51) dX0_copy_48 rfl fX0_16_0 hof rfl ?_
      refine w_aload_n (pc' := 52) dX0_copy_51 rfl rfl ?_
      -- at 52: .invokevirtual 98
      refine w_callV1 (pc' := 55) (mc := 1) (ms := 100) dX0_copy_52 rfl tJ2_add q257 rfl rfl q258 q256 hl5 rfl (Nat.le_of_ble_eq_true rfl) (Nat.le_of_ble_eq_true rfl) ?_
      refine c_J2_add lp (by omega) ⟨_, rfl, Or.inr ⟨_, rfl, q1585⟩⟩ lelp a5 (Or.inl (by decide : (18 : Nat) < 30)) (fun G6 f6 l6 => w_p1 ?_)
      have hof := (f6 oR (by simp only []; omega)).trans hof
      have l6 : lst G6 (-2) (σ.1 12 + 1) (fun k => some (pO k)) := lst_c (fun i _ _ => by unfold rset; split <;> simp [*]) l6
      obtain ⟨lf6, hl6⟩ := lst_o l6
      refine w_pop (pc' := 56) dX0_copy_55 rfl rfl ?_
      refine w_aload_n (pc' := 57) dX0_copy_56 rfl rfl ?_
      refine w_get 1 (pc' := 60) dX0_copy_57 rfl fX0_16_0 hof rfl ?_
      -- at 60: .invokevirtual 54
      refine w_callV0 (pc' := 63) (mc := 0) (ms := 0) dX0_copy_60 rfl tJ2_size q207 rfl rfl q208 q206 hl6 rfl (Nat.le_of_ble_eq_true rfl) (Nat.le_of_ble_eq_true rfl) ?_
      refine c_J2_size l6 ?_
      refine w_p1 ?_
      refine w_iconst (pc' := 64) dX0_copy_63 rfl (by decide) ?_
      refine w_isub (pc' := 65) dX0_copy_64 rfl ⟨by first | omega | (simp (decide := true) only [au_1, nu_2, au_lt, nu_lt, aw_e, nw_e, au_s, au_n, nu_s, nu_n, au_au, nu_nu, au_nu]; omega), by first | omega | (simp (decide := true) only [au_1, nu_2, au_lt, nu_lt, aw_e, nw_e, au_s, au_n, nu_s, nu_n, au_au, nu_nu, au_nu]; omega)⟩ ?_
      -- at 65: .ireturn
      refine w_ireturn dX0_copy_65 rfl ?_
      rw [show σ.1 12 + 1 - 1 = σ.1 12 by omega]
      have ch6 : ∀ q : Rl, q ≠ pO (σ.1 12) → ¬ ((q.1 = 30 ∨ q.1 = 31) ∧ (N ≤ q.2.1 ∧ q.2.1 < N + 2 ∨ q.2.1 = -2)) → G6 q = G q := fun q q1 q2 => (f6 q (by omega)).trans (ch5 q q1 (by omega))
      have er : ∀ p' i, rw_ (sCopy σ p) p' i = rfill (σ.2 10) (60 * σ.1 12) (σ.2 11 p) (fun q => σ.2 10 (60 * p + (q - 60 * σ.1 12))) (60 * p' + i) := fun _ _ => rfl
      refine h1 ⟨⟨p0, p1⟩, by omega⟩ G6 (fun q hq => ch6 q (fun z => by rw [z] at hq; simp only [] at hq; omega) (by omega)) ⟨_, Rx_npat (N' := N + 2) (M := N + 1) hw hK.1.1 hR.1.1 hp1.1 hr0 hf0 ⟨by omega, by omega⟩ ?_ ?_ rfl ?_ ch6 l6 ((f6 _ (by simp only []; omega)).trans a5) ?_⟩
      · intro k hk
        exact if_neg hk
      · intro k k10 k11
        show (if k = 11 then _ else if k = 10 then _ else _) = _
        rw [if_neg k11, if_neg k10]
      · intro p' q0 q1
        refine ⟨if_neg (by omega), fun i i0 i1 => ?_⟩
        have hM' := (hP.2 p' q0 q1).1
        rw [er]
        unfold rfill
        rw [if_neg (by omega)]
        rfl
      · show lst G6 (N + 1) (iset (σ.2 11) (σ.1 12) (σ.2 11 p) (σ.1 12)) _
        rw [show iset (σ.2 11) (σ.1 12) (σ.2 11 p) (σ.1 12) = σ.2 11 p from if_pos rfl]
        rw [hn] at l5
        refine lst_c (fun i i0 i1 => ?_) (lst_fr (by omega) f6 l5)
        rw [er]
        unfold rfill
        rw [if_pos (by omega)]
        show some (rO (σ.2 10 (60 * p + i))) = some (rO (σ.2 10 (60 * p + (60 * σ.1 12 + i - 60 * σ.1 12))))
        rw [show 60 * p + (60 * σ.1 12 + i - 60 * σ.1 12) = 60 * p + i by omega]
    · exact bad _ (by omega)
  · refine w_ast2 (pc' := 6) dX0_copy_5 rfl rfl ?_
    refine w_aload_n (pc' := 7) dX0_copy_6 rfl rfl ?_
    -- at 7: .ifnull 15
    refine w_ifnull (pc' := 10) (tgt := 22) dX0_copy_7 rfl rfl (fun h_ => ?_) (fun h_ => False.elim (h_ rfl))
    exact bad _ (fun q => g q.1)
end
