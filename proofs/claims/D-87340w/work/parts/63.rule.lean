set_option maxRecDepth 10000
theorem rul_c {G : GH} {r : Int} {H W : Nat} {B B' : Int → Int → Int → Int} (e : ∀ k i j : Int, 0 ≤ k → k < 40 → 0 ≤ i → i < H → 0 ≤ j → j < W → B' k i j = B k i j) (h : rul G r H W B) : rul G r H W B' := by
  obtain ⟨hO, g, hA, hg⟩ := h
  refine ⟨hO, g, hA, fun k k0 k1 => ?_⟩
  rcases hg k k0 k1 with ⟨p1, p2, p3⟩ | ⟨p1, fk, fm, fs, p2, p3⟩
  · exact Or.inl ⟨p1, p2, fun i j i0 i1 j0 j1 => (e k i j k0 k1 i0 i1 j0 j1).trans (p3 i j i0 i1 j0 j1)⟩
  · refine Or.inr ⟨p1, fk, fm, fs, p2, fun i j i0 i1 j0 j1 => ?_⟩
    rw [e k i j k0 k1 i0 i1 j0 j1]
    exact p3 i j i0 i1 j0 j1
/-- a new rule comes behind the others -/
theorem Rx_nrul {σ : MS} {pl cl : Int → Int} {N b : Int} {rg : Option Rl} {H W : Nat} {G G' : GH} (hw : Rx σ (pl, cl, N, b, rg) G) (hQ : qok σ) (hH : 1 ≤ H ∧ H ≤ 4) (hW : 1 ≤ W ∧ W ≤ 4)
    (ch : ∀ q : Rl, q ≠ uO (σ.1 29) → q ≠ uA (σ.1 29) → ¬ ((q.1 = 30 ∨ q.1 = 31) ∧ q.2.1 = -3) → G' q = G q) (l3 : lst G' (-3) (σ.1 29 + 1) (fun r => some (uO r))) (hU : rul G' (σ.1 29) H W (fun _ _ _ => 0)) : Rx (sRule σ H W) (pl, cl, N, b, rg) G' := by
  obtain ⟨hx1, hx2, hx3, hx4, hx5, hx6, hx7, hx8, hx9, hx10, hx11⟩ := Rx_un hw
  have hN := hx11.1
  have hq0 := hQ.1
  have ch2 : ∀ q : Rl, q.1 ≠ 20 → q.1 ≠ 21 → ¬ ((q.1 = 30 ∨ q.1 = 31) ∧ q.2.1 = -3) → G' q = G q := fun q q1 q2 q3 => ch q (fun z => q1 (by rw [z])) (fun z => q2 (by rw [z])) q3
  have g7 : Rrul (sRule σ H W) G' := by
    refine ⟨l3, fun r r0 r1 => ?_⟩
    have r1 : r < σ.1 29 + 1 := r1
    by_cases e : r = σ.1 29
    · refine ⟨H, W, ?_, ?_, ?_⟩
      · show (H : Int) = iset (σ.2 26) (σ.1 29) H r
        rw [e]
        exact (if_pos rfl).symm
      · show (W : Int) = iset (σ.2 27) (σ.1 29) W r
        rw [e]
        exact (if_pos rfl).symm
      · rw [e]
        refine rul_c (fun k i j k0 k1 i0 i1 j0 j1 => ?_) hU
        show rfill (σ.2 28) (640 * σ.1 29) 640 (fun _ => 0) (640 * σ.1 29 + 16 * k + 4 * i + j) = 0
        unfold rfill
        rw [if_pos (by omega)]
    · obtain ⟨H', W', e1, e2, hr⟩ := hx7.2 r r0 (by omega)
      have hb := hQ.2 r r0 (by omega)
      refine ⟨H', W', ?_, ?_, ?_⟩
      · show (H' : Int) = iset (σ.2 26) (σ.1 29) H r
        rw [e1]
        exact (if_neg e).symm
      · show (W' : Int) = iset (σ.2 27) (σ.1 29) W r
        rw [e2]
        exact (if_neg e).symm
      · refine rul_c (fun k i j k0 k1 i0 i1 j0 j1 => ?_) (rul_fr (ch _ (rl_ne (by omega)) (rl_ne (by omega)) (by simp only []; omega)) (ch _ (rl_ne (by omega)) (rl_ne (by omega)) (by simp only []; omega)) (fun k k0 k1 q q1 q2 => ch2 q (by omega) (by omega) (by omega)) hr)
        show rfill (σ.2 28) (640 * σ.1 29) 640 (fun _ => 0) (640 * r + 16 * k + 4 * i + j) = σ.2 28 (640 * r + 16 * k + 4 * i + j)
        unfold rfill
        rw [if_neg (by omega)]
  have g10 : fre (sRule σ H W) N G' := fre_ch (σ := σ) (k := σ.1 5) (m := σ.1 9) (p := σ.1 12) (r := σ.1 29 + 1) (f := σ.1 40) rfl rfl rfl rfl rfl (Int.le_refl _) (Int.le_refl _) (Int.le_refl _) (by omega) (Int.le_refl _) (by omega) (fun q hq => ch q (fun z => by rw [z] at hq; unfold frq at hq; simp only [] at hq; omega) (fun z => by rw [z] at hq; unfold frq at hq; simp only [] at hq; omega) (by unfold frq at hq; omega)) hx10
  have p2 : Rkin σ G' := Rkin_fr2 (fun q hq => ch2 q (by omega) (by omega) (by omega)) hx2
  have p3 : Rrow σ G' := Rrow_fr (fun q hq _ _ => ch2 q (by omega) (by omega) (by omega)) hx3
  have p4 : Rpat σ G' pl := Rpat_fr (fun p _ _ => ch2 _ (by simp only []; omega) (by simp only []; omega) (by simp only []; omega)) (fun q hq _ => ch2 q (by omega) (by omega) (by omega)) (fun p p0 p1 q hq e => ch2 q (by omega) (by omega) (by have z := hx11.2.2.1 p p0 p1; omega)) hx4
  have p5 : Rchg σ G' cl := Rchg_fr (ch2 _ (by decide) (by decide) (by decide)) (fun _ _ _ => ch2 _ (by simp only []; omega) (by simp only []; omega) (by simp only []; omega)) (fun t t0 t1 q hq e => ch2 q (by omega) (by omega) (by have z := hx11.2.2.2.1 t t0 t1; omega)) hx5
  have p6 : Rreg σ G' rg b := Rreg_fr (fun q hq _ => ch2 q (by omega) (by omega) (by omega)) hx6
  have p8 : Rflo σ G' := Rflo_fr (fun q hq => ch2 q (by omega) (by omega) (by omega)) hx8
  exact Rx_mk ((ch2 _ (by decide) (by decide) (by decide)).trans hx1) p2 p3 p4 p5 p6 g7 p8 (Rscr_fr (fun q hq => ch2 q (by omega) (by omega) (by omega)) hx9) g10 hx11
section
variable {d : Nat} {K : Option XV → GH → Prop} {G0 G : GH} {bc bs : Nat} {σ : MS} {w : RW}
theorem c_X0_rule {r c : Int} (hw : Rx σ w G) (hQ : qok σ) (h1 : rulOk σ r c → ∀ G', tfr G G' → Rel (sRule σ r c) G' → K (some (xI (σ.1 29))) G') (h0 : ¬ rulOk σ r c → K (some (xI (-1))) G) : tvW mX0_rule (d + 7) K 0 [some (xR oR), some (xI r), some (xI c)] [] G 3 143 := by
  obtain ⟨pl, cl, N, b, rg⟩ := w
  obtain ⟨hx1, hx2, hx3, hx4, hx5, hx6, hx7, hx8, hx9, hx10, hx11⟩ := Rx_un hw
  have hof := hx1
  unfold off at hof
  have hN := hx11.1
  have hq0 := hQ.1
  obtain ⟨lf, hl⟩ := lst_o hx7.1
  unfold rulOk at h1 h0
  have bad : ¬ (σ.1 29 ≠ 8 ∧ (1 ≤ r ∧ r ≤ 4) ∧ 1 ≤ c ∧ c ≤ 4) → tvW mX0_rule (d + 7) K 32 [some (xR oR), some (xI r), some (xI c)] [] G 3 143 := by
    intro q
    refine w_iconst (pc' := 33) dX0_rule_32 rfl (by decide) ?_
    -- at 33: .ireturn
    refine w_ireturn dX0_rule_33 rfl ?_
    exact h0 q
  refine w_aload_n (pc' := 1) dX0_rule_0 rfl rfl ?_
  refine w_get 2 (pc' := 4) dX0_rule_1 rfl fX0_19_0 hof rfl ?_
  -- at 4: .invokevirtual 54
  refine w_callV0 (pc' := 7) (mc := 0) (ms := 0) dX0_rule_4 rfl tJ2_size q207 rfl rfl q208 q206 hl rfl (Nat.le_of_ble_eq_true rfl) (Nat.le_of_ble_eq_true rfl) ?_
  refine c_J2_size hx7.1 ?_
  refine w_p1 ?_
  refine w_bipush (pc' := 9) dX0_rule_7 rfl (by decide +kernel) (by decide) ?_
  -- at 9: .if_icmp .eq 23
  refine w_icmp_eq (pc' := 12) (tgt := 32) dX0_rule_9 rfl rfl (fun q1 => ?_) (fun q1 => ?_)
  · exact bad (by omega)
  · refine w_iload_n (pc' := 13) dX0_rule_12 rfl rfl ?_
    refine w_iconst (pc' := 14) dX0_rule_13 rfl (by decide) ?_
    -- at 14: .if_icmp .lt 18
    refine w_icmp_lt (pc' := 17) (tgt := 32) dX0_rule_14 rfl rfl (fun q2 => ?_) (fun q2 => ?_)
    · exact bad (by omega)
    · refine w_iload_n (pc' := 18) dX0_rule_17 rfl rfl ?_
      refine w_iconst (pc' := 19) dX0_rule_18 rfl (by decide) ?_
      -- at 19: .if_icmp .gt 13
      refine w_icmp_gt (pc' := 22) (tgt := 32) dX0_rule_19 rfl rfl (fun q3 => ?_) (fun q3 => ?_)
      · exact bad (by omega)
      · refine w_iload_n (pc' := 23) dX0_rule_22 rfl rfl ?_
        refine w_iconst (pc' := 24) dX0_rule_23 rfl (by decide) ?_
        -- at 24: .if_icmp .lt 8
        refine w_icmp_lt (pc' := 27) (tgt := 32) dX0_rule_24 rfl rfl (fun q4 => ?_) (fun q4 => ?_)
        · exact bad (by omega)
        · refine w_iload_n (pc' := 28) dX0_rule_27 rfl rfl ?_
          refine w_iconst (pc' := 29) dX0_rule_28 rfl (by decide) ?_
          -- at 29: .if_icmp .le 5
          refine w_icmp_le (pc' := 32) (tgt := 34) dX0_rule_29 rfl rfl (fun q5 => ?_) (fun q5 => ?_)
          · obtain ⟨H, rfl⟩ : ∃ H : Nat, r = (H : Int) := ⟨r.toNat, by omega⟩
            obtain ⟨W, rfl⟩ : ∃ W : Nat, c = (W : Int) := ⟨c.toNat, by omega⟩
            have hfO : G (uO (σ.1 29)) = none := fre_iff.mp hx10 _ (Or.inr (Or.inr (Or.inr (Or.inr (Or.inr (Or.inl ⟨Or.inl rfl, Int.le_refl _⟩))))))
            have hfA : G (uA (σ.1 29)) = none := fre_iff.mp hx10 _ (Or.inr (Or.inr (Or.inr (Or.inr (Or.inr (Or.inl ⟨Or.inr rfl, Int.le_refl _⟩))))))
            have hfB : ∀ (t : Nat) (k z : Int), 33 ≤ t → t < 38 → 0 ≤ k → k < 40 → G (t, bid (σ.1 29) k, z) = none := fun t k z t0 t1 k0 k1 => fre_iff.mp hx10 _ (Or.inr (Or.inr (Or.inr (Or.inr (Or.inr (Or.inr (Or.inl ⟨⟨t0, t1⟩, by show -1 - (40 * σ.1 29 + k) < _; omega⟩)))))))
            refine w_aload_n (pc' := 35) dX0_rule_34 rfl rfl ?_
            refine w_get 2 (pc' := 38) dX0_rule_35 rfl fX0_19_0 hof rfl ?_
            refine w_new (N := 3) (uO (σ.1 29)) (pc' := 41) dX0_rule_38 rfl nX0_64 (by assumption) (by first | assumption | simp) ?_
            -- at 41: .dup
            refine w_upd (fun G1 a1 f1 => ?_)
            have hfA := (f1 _ (rl_ne (by omega))).trans hfA
            refine w_dup (pc' := 42) dX0_rule_41 rfl rfl ?_
            refine w_iload_n (pc' := 43) dX0_rule_42 rfl rfl ?_
            refine w_iload_n (pc' := 44) dX0_rule_43 rfl rfl ?_
            -- at 44: .invokespecial 224
            refine w_callI2 (pc' := 47) (mc := 1) (ms := 40) dX0_rule_44 rfl tX8_init rfl rfl q613 (Or.inl q612) rfl (Nat.le_of_ble_eq_true rfl) (Nat.le_of_ble_eq_true rfl) ?_
            refine c_X8_init (B := fun _ _ _ => 0) a1 hfA (fun t k z t0 t1 k0 k1 => (f1 _ (rl_ne (by omega))).trans (hfB t k z t0 t1 k0 k1)) (fun _ _ _ _ _ _ _ => rfl) (fun G2 f2 hu => w_p0 ?_)
            have ch2 : ∀ q : Rl, q ≠ uO (σ.1 29) → q ≠ uA (σ.1 29) → G2 q = G q := fun q q1 q2 => (f2 q q1 q2).trans (f1 q q1)
            have lp : lst G2 (-3) (σ.1 29) (fun p => some (uO p)) := lst_of_fr (fun q q1 q2 => ch2 q (fun z => by rw [z] at q1; simp only [] at q1; omega) (fun z => by rw [z] at q1; simp only [] at q1; omega)) hx7.1
            have lelp : lel G2 (σ.1 29) (fun p => some (uO p)) 7 := by
              intro i i0 i1
              obtain ⟨H', W', -, -, hr⟩ := hx7.2 i i0 i1
              exact ⟨_, _, rfl, Or.inl (by decide : (20 : Nat) < 30), (ch2 _ (rl_ne (by omega)) (rl_ne (by omega))).trans hr.1⟩
            obtain ⟨lf2, hl2⟩ := lst_o lp
            refine w_callV1 (pc' := 50) (mc := 1) (ms := 100) dX0_rule_47 rfl tJ2_add q257 rfl rfl q258 q256 hl2 rfl (Nat.le_of_ble_eq_true rfl) (Nat.le_of_ble_eq_true rfl) ?_
            refine c_J2_add lp (by omega) ⟨_, rfl, Or.inr ⟨_, rfl, q1587⟩⟩ lelp hu.1 (Or.inl (by decide : (20 : Nat) < 30)) (fun G3 f3 l3 => w_p1 ?_)
            have hof := ((f3 oR (by simp only []; omega)).trans (ch2 oR (rl_ne (by omega)) (rl_ne (by omega)))).trans hof
            have l3 : lst G3 (-3) (σ.1 29 + 1) (fun k => some (uO k)) := lst_c (fun i _ _ => by unfold rset; split <;> simp [*]) l3
            obtain ⟨lf3, hl3⟩ := lst_o l3
            refine w_pop (pc' := 51) dX0_rule_50 rfl rfl ?_
            refine w_aload_n (pc' := 52) dX0_rule_51 rfl rfl ?_
            refine w_get 2 (pc' := 55) dX0_rule_52 rfl fX0_19_0 hof rfl ?_
            -- at 55: .invokevirtual 54
            refine w_callV0 (pc' := 58) (mc := 0) (ms := 0) dX0_rule_55 rfl tJ2_size q207 rfl rfl q208 q206 hl3 rfl (Nat.le_of_ble_eq_true rfl) (Nat.le_of_ble_eq_true rfl) ?_
            refine c_J2_size l3 ?_
            refine w_p1 ?_
            refine w_iconst (pc' := 59) dX0_rule_58 rfl (by decide) ?_
            refine w_isub (pc' := 60) dX0_rule_59 rfl ⟨by first | omega | (simp (decide := true) only [au_1, nu_2, au_lt, nu_lt, aw_e, nw_e, au_s, au_n, nu_s, nu_n, au_au, nu_nu, au_nu]; omega), by first | omega | (simp (decide := true) only [au_1, nu_2, au_lt, nu_lt, aw_e, nw_e, au_s, au_n, nu_s, nu_n, au_au, nu_nu, au_nu]; omega)⟩ ?_
            -- at 60: .ireturn
            refine w_ireturn dX0_rule_60 rfl ?_
            rw [show σ.1 29 + 1 - 1 = σ.1 29 by omega]
            have ch3 : ∀ q : Rl, q ≠ uO (σ.1 29) → q ≠ uA (σ.1 29) → ¬ ((q.1 = 30 ∨ q.1 = 31) ∧ q.2.1 = -3) → G3 q = G q := fun q q1 q2 q3 => (f3 q (by omega)).trans (ch2 q q1 q2)
            exact h1 ⟨q1, ⟨by omega, by omega⟩, by omega, by omega⟩ G3 (fun q hq => ch3 q (fun z => by rw [z] at hq; simp only [] at hq; omega) (fun z => by rw [z] at hq; simp only [] at hq; omega) (by omega)) ⟨_, Rx_nrul hw hQ ⟨by omega, by omega⟩ ⟨by omega, by omega⟩ ch3 l3 (rul_fr (f3 _ (by simp only []; omega)) (f3 _ (by simp only []; omega)) (fun k k0 k1 q q1 q2 => f3 q (by omega)) hu)⟩
          · exact bad (by omega)
end
