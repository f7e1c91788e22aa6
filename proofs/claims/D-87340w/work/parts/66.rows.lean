set_option maxRecDepth 10000
section
variable {d : Nat} {K : Option XV → GH → Prop} {G0 G : GH} {bc bs : Nat} {σ : MS} {w : RW}
theorem fre_row {σ : MS} {N : Int} {G : GH} (h : fre σ N G) : ∀ t : Nat, 14 ≤ t → t < 18 → G (t, σ.1 9, 0) = none := fun t t0 t1 => fre_iff.mp h _ (Or.inr (Or.inr (Or.inr (Or.inl ⟨t0, t1, Int.le_refl _⟩))))
theorem c_X0_own {p i : Int} (hw : Rx σ w G) (hR : rok σ) (hP : pok σ) (p0 : 0 ≤ p) (p1 : p < σ.1 12) (i0 : 0 ≤ i) (i1 : i < σ.2 11 p) (h : ∀ G', tfr G G' → Rx (sOwn σ p i) w G' → K (some (xR (rO (σ.1 9)))) G') : tvW mX0_own (d + 3) K 0 [some (xR oR), some (xR (pO p)), some (xI i), none] [] G 4 184 := by
  obtain ⟨pl, cl, N, b, rg⟩ := w
  obtain ⟨hx1, hx2, hx3, hx4, hx5, hx6, hx7, hx8, hx9, hx10, hx11⟩ := Rx_un hw
  have hof := hx1
  unfold off at hof
  have hm := hR.1
  obtain ⟨hPo, hPl⟩ := hx4.2 p p0 p1
  have hPo0 := hPo
  obtain ⟨r0, r1⟩ := (hP.2 p p0 p1).2 i i0 i1
  have hrow := hx3 _ r0 r1
  have hL := (hR.2 _ r0 r1).1
  have h14 := fre_row hx10 14 (by omega) (by omega)
  have h15 := fre_row hx10 15 (by omega) (by omega)
  have h16 := fre_row hx10 16 (by omega) (by omega)
  have h17 := fre_row hx10 17 (by omega) (by omega)
  refine w_new (N := 4) (rO (σ.1 9)) (pc' := 3) dX0_own_0 rfl nX0_138 (by assumption) (by first | assumption | simp) ?_
  -- at 3: .dup
  refine w_upd (fun G1 a1 f1 => ?_)
  have h15 := (f1 _ (rl_ne (by omega))).trans h15
  have h16 := (f1 _ (rl_ne (by omega))).trans h16
  have h17 := (f1 _ (rl_ne (by omega))).trans h17
  have hPo := (f1 _ (rl_ne (by omega))).trans hPo
  have l1 := lst_of_fr (G' := G1) (fun q q1 q2 => f1 q (fun z => by rw [z] at q1; simp only [] at q1; omega)) hPl
  have row1 := row_e (G' := G1) (fun t t0 t1 => f1 (t, rw_ σ p i, 0) (rl_ne (by omega))) hrow
  obtain ⟨lf, hlO⟩ := lst_o l1
  refine w_dup (pc' := 4) dX0_own_3 rfl rfl ?_
  refine w_aload_n (pc' := 5) dX0_own_4 rfl rfl ?_
  refine w_get 0 (pc' := 8) dX0_own_5 rfl fX0_140_3 hPo rfl ?_
  refine w_iload_n (pc' := 9) dX0_own_8 rfl rfl ?_
  -- at 9: .invokevirtual 58
  refine w_callV1 (pc' := 12) (mc := 0) (ms := 0) dX0_own_9 rfl tJ2_get q211 rfl rfl q212 q210 hlO rfl (Nat.le_of_ble_eq_true rfl) (Nat.le_of_ble_eq_true rfl) ?_
  refine c_J2_get l1 ⟨i0, i1⟩ ?_
  refine w_p1 ?_
  refine w_cast (pc' := 15) dX0_own_12 rfl row1.1 rfl q425 ?_
  -- at 15: .invokespecial 143
  refine w_callI1 (pc' := 18) (mc := 3) (ms := 180) dX0_own_15 rfl tX6_init_2 rfl rfl q502 (Or.inl q501) rfl (Nat.le_of_ble_eq_true rfl) (Nat.le_of_ble_eq_true rfl) ?_
  refine c_X6_init_2 a1 h15 h16 h17 row1 hL.2 (by omega) (fun G2 f2 r2 => w_p0 ?_)
  have ch2 : ∀ q : Rl, ¬ ((14 ≤ q.1 ∧ q.1 < 18) ∧ q.2.1 = σ.1 9) → G2 q = G q := fun q hq => (f2 q hq).trans (f1 q (fun z => hq (by rw [z]; exact ⟨by simp only []; omega, rfl⟩)))
  have hof := (ch2 oR (by simp only []; omega)).trans hof
  refine w_ast3 (pc' := 19) dX0_own_18 rfl rfl ?_
  refine w_aload_n (pc' := 20) dX0_own_19 rfl rfl ?_
  refine w_dup (pc' := 21) dX0_own_20 rfl rfl ?_
  refine w_get 6 (pc' := 24) dX0_own_21 rfl fX0_135_0 hof rfl ?_
  refine w_iconst (pc' := 25) dX0_own_24 rfl (by decide) ?_
  refine w_iadd (pc' := 26) dX0_own_25 rfl ⟨by first | omega | (simp (decide := true) only [au_1, nu_2, au_lt, nu_lt, aw_e, nw_e, au_s, au_n, nu_s, nu_n, au_au, nu_nu, au_nu]; omega), by first | omega | (simp (decide := true) only [au_1, nu_2, au_lt, nu_lt, aw_e, nw_e, au_s, au_n, nu_s, nu_n, au_au, nu_nu, au_nu]; omega)⟩ ?_
  refine w_put 6 (pc' := 29) dX0_own_26 rfl pX0_135_0 (by decide) hof (Nat.le_of_ble_eq_true rfl) trivial ?_
  -- at 29: .aload_n 1
  refine w_upd (fun G3 a3 f3 => ?_)
  have ch3 : ∀ q : Rl, q ≠ oR → ¬ ((14 ≤ q.1 ∧ q.1 < 18) ∧ q.2.1 = σ.1 9) → G3 q = G q := fun q q1 q2 => (f3 q q1).trans (ch2 q q2)
  have r3 := row_e (G' := G3) (fun t t0 t1 => f3 (t, σ.1 9, 0) (rl_ne (by omega))) r2
  have hPo3 := (ch3 (pO p) (rl_ne (by omega)) (by simp only []; omega)).trans hPo0
  have l3 := lst_of_fr (G' := G3) (fun q q1 q2 => ch3 q (fun z => by rw [z] at q1; simp only [] at q1; omega) (by omega)) hPl
  obtain ⟨lf3, hlO3⟩ := lst_o l3
  refine w_aload_n (pc' := 30) dX0_own_29 rfl rfl ?_
  refine w_get 0 (pc' := 33) dX0_own_30 rfl fX0_140_3 hPo3 rfl ?_
  refine w_iload_n (pc' := 34) dX0_own_33 rfl rfl ?_
  refine w_aload_n (pc' := 35) dX0_own_34 rfl rfl ?_
  -- at 35: .invokevirtual 146
  refine w_callV2 (pc' := 38) (mc := 0) (ms := 0) dX0_own_35 rfl tJ2_set q517 rfl rfl q518 q516 hlO3 rfl (Nat.le_of_ble_eq_true rfl) (Nat.le_of_ble_eq_true rfl) ?_
  refine c_J2_set l3 ⟨i0, i1⟩ ⟨_, rfl, Or.inr ⟨_, rfl, q1586⟩⟩ r3.1 (fun G4 f4 l4 => w_p1 ?_)
  refine w_pop (pc' := 39) dX0_own_38 rfl rfl ?_
  refine w_aload_n (pc' := 40) dX0_own_39 rfl rfl ?_
  -- at 40: .areturn
  refine w_areturn dX0_own_40 rfl ?_
  have ch4 : ∀ q : Rl, q ≠ oR → ¬ ((14 ≤ q.1 ∧ q.1 < 18) ∧ q.2.1 = σ.1 9) → ¬ ((q.1 = 30 ∨ q.1 = 31) ∧ q.2.1 = pl p) → G4 q = G q := fun q q1 q2 q3 => (f4 q q3).trans (ch3 q q1 q2)
  exact h G4 (fun q hq => ch4 q (fun z => by rw [z] at hq; simp only [] at hq; omega) (by omega) (by omega)) (Rx_own hw (pok_pmo hP) hR p0 p1 i0 i1 ch4 ((f4 oR (by simp only []; omega)).trans a3) (row_e (fun t t0 t1 => f4 _ (by simp only []; omega)) r3) hL.2 (lst_c (fun k _ _ => rfl) l4))
theorem rok_kp {σ : MS} {p : Int} (h : rok σ) : rok (sKeep σ p) := h
theorem pok_kp {σ : MS} {p : Int} (h : pok σ) : pok (sKeep σ p) := h
theorem kok_kp {σ : MS} {p : Int} (h : kok σ) : kok (sKeep σ p) := h
theorem c_X0_insert_t {p i ofs : Int} {n : Nat} (hw : Rx σ w G) (hR : rok σ) (hP : pok σ) (p0 : 0 ≤ p) (p1 : p < σ.1 12) (i0 : 0 ≤ i) (i1 : i ≤ σ.2 11 p) (hM6 : σ.2 11 p < 60) (hn : n ≤ 60) (h : ∀ G', tfr G G' → Rel (sPutRow (sNew σ n ofs) p i (σ.1 9)) G' → K (some (xI 1)) G') : tvW mX0_insert (d + 7) K 81 [some (xR oR), some (xI p), some (xI i), some (xI n), some (xI ofs), some (xR (pO p))] [] G 5 284 := by
  obtain ⟨pl, cl, N, b, rg⟩ := w
  obtain ⟨hx1, hx2, hx3, hx4, hx5, hx6, hx7, hx8, hx9, hx10, hx11⟩ := Rx_un hw
  have hof := hx1
  unfold off at hof
  have hm := hR.1
  obtain ⟨hPo, hPl⟩ := hx4.2 p p0 p1
  have hpr := Rx_prw hw hR hP p0 p1
  have hel : lel G (σ.2 11 p) (fun i => some (rO (rw_ σ p i))) 5 := prw_el hpr
  have h14 := fre_row hx10 14 (by omega) (by omega)
  have h15 := fre_row hx10 15 (by omega) (by omega)
  have h16 := fre_row hx10 16 (by omega) (by omega)
  have h17 := fre_row hx10 17 (by omega) (by omega)
  refine w_aload (pc' := 83) dX0_insert_81 rfl rfl ?_
  refine w_get 0 (pc' := 86) dX0_insert_83 rfl fX0_140_3 hPo rfl ?_
  refine w_iload_n (pc' := 87) dX0_insert_86 rfl rfl ?_
  refine w_new (N := 4) (rO (σ.1 9)) (pc' := 90) dX0_insert_87 rfl nX0_138 (by assumption) (by first | assumption | simp) ?_
  -- at 90: .dup
  refine w_upd (fun G1 a1 f1 => ?_)
  have h15 := (f1 _ (rl_ne (by omega))).trans h15
  have h16 := (f1 _ (rl_ne (by omega))).trans h16
  have h17 := (f1 _ (rl_ne (by omega))).trans h17
  refine w_dup (pc' := 91) dX0_insert_90 rfl rfl ?_
  refine w_iload_n (pc' := 92) dX0_insert_91 rfl rfl ?_
  refine w_iload (pc' := 94) dX0_insert_92 rfl rfl ?_
  -- at 94: .invokespecial 160
  refine w_callI2 (pc' := 97) (mc := 3) (ms := 180) dX0_insert_94 rfl tX6_init rfl rfl q428 (Or.inl q427) rfl (Nat.le_of_ble_eq_true rfl) (Nat.le_of_ble_eq_true rfl) ?_
  refine c_X6_init a1 h15 h16 h17 hn (fun G2 f2 r2 => w_p0 ?_)
  have ch2 : ∀ q : Rl, ¬ ((14 ≤ q.1 ∧ q.1 < 18) ∧ q.2.1 = σ.1 9) → G2 q = G q := fun q hq => (f2 q hq).trans (f1 q (fun z => hq (by rw [z]; exact ⟨by simp only []; omega, rfl⟩)))
  have l2 := lst_of_fr (G' := G2) (fun q q1 q2 => ch2 q (by omega)) hPl
  have el2 : lel G2 (σ.2 11 p) (fun i => some (rO (rw_ σ p i))) 5 := by
    intro k k0 k1
    obtain ⟨x, fs, e1, e2, e3⟩ := hel k k0 k1
    cases e1
    have := (hP.2 p p0 p1).2 k k0 k1
    exact ⟨_, fs, rfl, e2, (ch2 _ (by simp only []; omega)).trans e3⟩
  obtain ⟨lf2, hlO2⟩ := lst_o l2
  refine w_callV2 (pc' := 100) (mc := 1) (ms := 100) dX0_insert_97 rfl tJ2_add_3 q453 rfl rfl q454 q452 hlO2 rfl (Nat.le_of_ble_eq_true rfl) (Nat.le_of_ble_eq_true rfl) ?_
  refine c_J2_add_3 l2 hM6 ⟨i0, i1⟩ ⟨_, rfl, Or.inr ⟨_, rfl, q1586⟩⟩ el2 r2.1 (Or.inl (by decide : (14 : Nat) < 30)) (fun G3 f3 l3 => w_p0 ?_)
  have hof := ((f3 oR (by simp only []; omega)).trans (ch2 oR (by simp only []; omega))).trans hof
  refine w_aload_n (pc' := 101) dX0_insert_100 rfl rfl ?_
  refine w_dup (pc' := 102) dX0_insert_101 rfl rfl ?_
  refine w_get 6 (pc' := 105) dX0_insert_102 rfl fX0_135_0 hof rfl ?_
  refine w_iconst (pc' := 106) dX0_insert_105 rfl (by decide) ?_
  refine w_iadd (pc' := 107) dX0_insert_106 rfl ⟨by first | omega | (simp (decide := true) only [au_1, nu_2, au_lt, nu_lt, aw_e, nw_e, au_s, au_n, nu_s, nu_n, au_au, nu_nu, au_nu]; omega), by first | omega | (simp (decide := true) only [au_1, nu_2, au_lt, nu_lt, aw_e, nw_e, au_s, au_n, nu_s, nu_n, au_au, nu_nu, au_nu]; omega)⟩ ?_
  refine w_put 6 (pc' := 110) dX0_insert_107 rfl pX0_135_0 (by decide) hof (Nat.le_of_ble_eq_true rfl) trivial ?_
  -- at 110: .iconst 1
  refine w_upd (fun G4 a4 f4 => ?_)
  refine w_iconst (pc' := 111) dX0_insert_110 rfl (by decide) ?_
  -- at 111: .ireturn
  refine w_zreturn dX0_insert_111 rfl (by first | exact Or.inl rfl | exact Or.inr rfl | omega) ?_
  have ch4 : ∀ q : Rl, q ≠ oR → ¬ ((14 ≤ q.1 ∧ q.1 < 18) ∧ q.2.1 = σ.1 9) → ¬ ((q.1 = 30 ∨ q.1 = 31) ∧ q.2.1 = pl p) → G4 q = G q := fun q q1 q2 q3 => ((f4 q q1).trans (f3 q q3)).trans (ch2 q q2)
  exact h G4 (fun q hq => ch4 q (fun z => by rw [z] at hq; simp only [] at hq; omega) (by omega) (by omega)) ⟨_, Rx_ins hw (pok_pmo hP) hR p0 p1 i0 i1 hM6 hn ch4 a4 (row_e (fun t t0 t1 => (f4 _ (rl_ne (by omega))).trans (f3 _ (by simp only []; omega))) r2) (lst_of_fr (fun q q1 q2 => f4 q (fun z => by rw [z] at q1; simp only [] at q1; omega)) l3)⟩
theorem c_X0_insert {p i len ofs : Int} (hw : Rx σ w G) (hR : rok σ) (hP : pok σ) (hU : uok σ) (h1 : insOk σ p i len ofs → ∀ G', tfr G G' → Rel (sPutRow (sNew (sKeep σ p) len ofs) p i (σ.1 9)) G' → K (some (xI 1)) G') (h0 : ¬ insOk σ p i len ofs → K (some (xI 0)) G) : tvW mX0_insert (d + 7) K 0 [some (xR oR), some (xI p), some (xI i), some (xI len), some (xI ofs), none] [] G 8 349 := by
  have hof := hw.1
  unfold off at hof
  unfold insOk at h1 h0
  have hm := hR.1
  have bad : ∀ o, ¬ ((0 ≤ p ∧ p < σ.1 12) ∧ (0 ≤ i ∧ i ≤ σ.2 11 p) ∧ σ.2 11 p ≠ 60 ∧ (0 ≤ len ∧ len ≤ 60) ∧ (-30 ≤ ofs ∧ ofs ≤ 30) ∧ σ.1 9 ≠ 6000) → tvW mX0_insert (d + 7) K 73 [some (xR oR), some (xI p), some (xI i), some (xI len), some (xI ofs), some (xO o)] [] G 8 349 := by
    intro o q
    refine w_iconst (pc' := 74) dX0_insert_73 rfl (by decide) ?_
    -- at 74: .ireturn
    refine w_zreturn dX0_insert_74 rfl (by first | exact Or.inl rfl | exact Or.inr rfl | omega) ?_
    exact h0 q
  refine w_aload_n (pc' := 1) dX0_insert_0 rfl rfl ?_
  refine w_iload_n (pc' := 2) dX0_insert_1 rfl rfl ?_
  -- at 2: .invokevirtual 150
  refine w_callV1 (pc' := 5) (mc := 0) (ms := 0) dX0_insert_2 rfl tX0_pattern_2 q375 rfl rfl qs4 q373 hof rfl (Nat.le_of_ble_eq_true rfl) (Nat.le_of_ble_eq_true rfl) ?_
  refine c_X0_pattern_2 hw (fun p0 p1 => w_p1 ?_) (fun g => w_p1 ?_)
  · obtain ⟨hPo, hPl⟩ := hw.2.2.2.1.2 p p0 p1
    obtain ⟨lf, hlO⟩ := lst_o hPl
    have hM := (hP.2 p p0 p1).1
    refine w_ast5 (pc' := 7) dX0_insert_5 rfl rfl ?_
    refine w_aload (pc' := 9) dX0_insert_7 rfl rfl ?_
    -- at 9: .ifnull 64
    refine w_ifnull (pc' := 12) (tgt := 73) dX0_insert_9 rfl rfl (fun h_ => False.elim (nomatch h_)) (fun h_ => ?_)
    refine w_iload_n (pc' := 13) dX0_insert_12 rfl rfl ?_
    -- at 13: .ifCond .lt 60
    refine w_if_lt (pc' := 16) (tgt := 73) dX0_insert_13 rfl rfl (fun q1 => ?_) (fun q1 => ?_)
    · exact bad _ (by omega)
    · refine w_iload_n (pc' := 17) dX0_insert_16 rfl rfl ?_
      refine w_aload (pc' := 19) dX0_insert_17 rfl rfl ?_
      refine w_get 0 (pc' := 22) dX0_insert_19 rfl fX0_140_3 hPo rfl ?_
      -- at 22: .invokevirtual 54
      refine w_callV0 (pc' := 25) (mc := 0) (ms := 0) dX0_insert_22 rfl tJ2_size q207 rfl rfl q208 q206 hlO rfl (Nat.le_of_ble_eq_true rfl) (Nat.le_of_ble_eq_true rfl) ?_
      refine c_J2_size hPl ?_
      refine w_p1 ?_
      refine w_icmp_gt (pc' := 28) (tgt := 73) dX0_insert_25 rfl rfl (fun q2 => ?_) (fun q2 => ?_)
      · exact bad _ (by omega)
      · refine w_aload (pc' := 30) dX0_insert_28 rfl rfl ?_
        refine w_get 0 (pc' := 33) dX0_insert_30 rfl fX0_140_3 hPo rfl ?_
        -- at 33: .invokevirtual 54
        refine w_callV0 (pc' := 36) (mc := 0) (ms := 0) dX0_insert_33 rfl tJ2_size q207 rfl rfl q208 q206 hlO rfl (Nat.le_of_ble_eq_true rfl) (Nat.le_of_ble_eq_true rfl) ?_
        refine c_J2_size hPl ?_
        refine w_p1 ?_
        refine w_bipush (pc' := 38) dX0_insert_36 rfl (by decide +kernel) (by decide) ?_
        -- at 38: .if_icmp .eq 35
        refine w_icmp_eq (pc' := 41) (tgt := 73) dX0_insert_38 rfl rfl (fun q3 => ?_) (fun q3 => ?_)
        · exact bad _ (by omega)
        · refine w_iload_n (pc' := 42) dX0_insert_41 rfl rfl ?_
          -- at 42: .ifCond .lt 31
          refine w_if_lt (pc' := 45) (tgt := 73) dX0_insert_42 rfl rfl (fun q4 => ?_) (fun q4 => ?_)
          · exact bad _ (by omega)
          · refine w_iload_n (pc' := 46) dX0_insert_45 rfl rfl ?_
            refine w_bipush (pc' := 48) dX0_insert_46 rfl (by decide +kernel) (by decide) ?_
            -- at 48: .if_icmp .gt 25
            refine w_icmp_gt (pc' := 51) (tgt := 73) dX0_insert_48 rfl rfl (fun q5 => ?_) (fun q5 => ?_)
            · exact bad _ (by omega)
            · refine w_iload (pc' := 53) dX0_insert_51 rfl rfl ?_
              refine w_bipush (pc' := 55) dX0_insert_53 rfl (by decide +kernel) (by decide) ?_
              -- at 55: .if_icmp .lt 18
              refine w_icmp_lt (pc' := 58) (tgt := 73) dX0_insert_55 rfl rfl (fun q6 => ?_) (fun q6 => ?_)
              · exact bad _ (by omega)
              · refine w_iload (pc' := 60) dX0_insert_58 rfl rfl ?_
                refine w_bipush (pc' := 62) dX0_insert_60 rfl (by decide +kernel) (by decide) ?_
                -- at 62: .if_icmp .gt 11
                refine w_icmp_gt (pc' := 65) (tgt := 73) dX0_insert_62 rfl rfl (fun q7 => ?_) (fun q7 => ?_)
                · exact bad _ (by omega)
                · refine w_aload_n (pc' := 66) dX0_insert_65 rfl rfl ?_
                  refine w_iconst (pc' := 67) dX0_insert_66 rfl (by decide) ?_
                  -- at 67: .invokevirtual 154
                  refine w_callV1 (pc' := 70) (mc := 0) (ms := 0) dX0_insert_67 rfl tX0_canMake q379 rfl rfl qs5 q377 hof rfl (Nat.le_of_ble_eq_true rfl) (Nat.le_of_ble_eq_true rfl) ?_
                  refine c_X0_canMake hw hR (fun c => w_p1 ?_) (fun c => w_p1 ?_)
                  · refine w_if_ne (pc' := 73) (tgt := 75) dX0_insert_70 rfl rfl (fun h_ => ?_) (fun h_ => False.elim (by first | omega | (simp (decide := true) only [au_1, nu_2, au_lt, nu_lt, aw_e, nw_e, au_s, au_n, nu_s, nu_n, au_au, nu_nu, au_nu] at h_; omega)))
                    obtain ⟨n, rfl⟩ : ∃ n : Nat, len = (n : Int) := ⟨len.toNat, by omega⟩
                    refine w_aload_n (pc' := 76) dX0_insert_75 rfl rfl ?_
                    refine w_aload (pc' := 78) dX0_insert_76 rfl rfl ?_
                    -- at 78: .invokevirtual 157
                    refine w_callV1 (pc' := 81) (mc := 3) (ms := 65) dX0_insert_78 rfl tX0_keep q383 rfl rfl qs6 q381 hof rfl (Nat.le_of_ble_eq_true rfl) (Nat.le_of_ble_eq_true rfl) ?_
                    refine c_X0_keep hw hR hP hU p0 p1 (fun G1 t1 r1 => w_p0 ?_)
                    obtain ⟨w1, r1⟩ := r1
                    refine c_X0_insert_t (σ := sKeep σ p) r1 (rok_kp hR) (pok_kp hP) p0 p1 (by omega) ?_ ?_ (by omega) (fun G2 t2 r2 => ?_)
                    · show i ≤ σ.2 11 p
                      omega
                    · show σ.2 11 p < 60
                      omega
                    · exact h1 ⟨⟨p0, p1⟩, ⟨by omega, by omega⟩, q3, ⟨by omega, by omega⟩, ⟨by omega, by omega⟩, by omega⟩ G2 (fun q hq => (t2 q hq).trans (t1 q hq)) r2
                  · refine w_if_ne (pc' := 73) (tgt := 75) dX0_insert_70 rfl rfl (fun h_ => False.elim (by first | omega | (simp (decide := true) only [au_1, nu_2, au_lt, nu_lt, aw_e, nw_e, au_s, au_n, nu_s, nu_n, au_au, nu_nu, au_nu] at h_; omega))) (fun h_ => ?_)
                    exact bad _ (by omega)
  · refine w_ast5 (pc' := 7) dX0_insert_5 rfl rfl ?_
    refine w_aload (pc' := 9) dX0_insert_7 rfl rfl ?_
    -- at 9: .ifnull 64
    refine w_ifnull (pc' := 12) (tgt := 73) dX0_insert_9 rfl rfl (fun h_ => ?_) (fun h_ => False.elim (h_ rfl))
    exact bad _ (fun q => g q.1)
theorem c_X0_remove {p i : Int} (hw : Rx σ w G) (hR : rok σ) (hP : pok σ) (hU : uok σ) (h1 : (0 ≤ p ∧ p < σ.1 12) ∧ 0 ≤ i ∧ i < σ.2 11 p → ∀ G', tfr G G' → Rel (sTake (sKeep σ p) p i) G' → K (some (xI 1)) G') (h0 : ¬ ((0 ≤ p ∧ p < σ.1 12) ∧ 0 ≤ i ∧ i < σ.2 11 p) → K (some (xI 0)) G) : tvW mX0_remove (d + 7) K 0 [some (xR oR), some (xI p), some (xI i), none] [] G 3 65 := by
  have hof := hw.1
  unfold off at hof
  have bad : ∀ o, ¬ ((0 ≤ p ∧ p < σ.1 12) ∧ 0 ≤ i ∧ i < σ.2 11 p) → tvW mX0_remove (d + 7) K 18 [some (xR oR), some (xI p), some (xI i), some (xO o)] [] G 3 65 := by
    intro o q
    refine w_iconst (pc' := 19) dX0_remove_18 rfl (by decide) ?_
    -- at 19: .ireturn
    refine w_zreturn dX0_remove_19 rfl (by first | exact Or.inl rfl | exact Or.inr rfl | omega) ?_
    exact h0 q
  refine w_aload_n (pc' := 1) dX0_remove_0 rfl rfl ?_
  refine w_iload_n (pc' := 2) dX0_remove_1 rfl rfl ?_
  -- at 2: .invokevirtual 150
  refine w_callV1 (pc' := 5) (mc := 0) (ms := 0) dX0_remove_2 rfl tX0_pattern_2 q375 rfl rfl qs4 q373 hof rfl (Nat.le_of_ble_eq_true rfl) (Nat.le_of_ble_eq_true rfl) ?_
  refine c_X0_pattern_2 hw (fun p0 p1 => w_p1 ?_) (fun g => w_p1 ?_)
  · obtain ⟨hPo, hPl⟩ := hw.2.2.2.1.2 p p0 p1
    have hpr := Rx_prw hw hR hP p0 p1
    refine w_ast3 (pc' := 6) dX0_remove_5 rfl rfl ?_
    refine w_aload_n (pc' := 7) dX0_remove_6 rfl rfl ?_
    -- at 7: .ifnull 11
    refine w_ifnull (pc' := 10) (tgt := 18) dX0_remove_7 rfl rfl (fun h_ => False.elim (nomatch h_)) (fun h_ => ?_)
    refine w_aload_n (pc' := 11) dX0_remove_10 rfl rfl ?_
    refine w_iload_n (pc' := 12) dX0_remove_11 rfl rfl ?_
    -- at 12: .invokevirtual 166
    refine w_callV1 (pc' := 15) (mc := 0) (ms := 0) dX0_remove_12 rfl tX4_row q466 rfl rfl q467 q465 hPo rfl (Nat.le_of_ble_eq_true rfl) (Nat.le_of_ble_eq_true rfl) ?_
    refine c_X4_row hPo hpr (fun i0 i1 => w_p1 ?_) (fun g => w_p1 ?_)
    · refine w_ifnonnull (pc' := 18) (tgt := 20) dX0_remove_15 rfl rfl (fun h_ => ?_) (fun h_ => False.elim (nomatch h_))
      refine w_aload_n (pc' := 21) dX0_remove_20 rfl rfl ?_
      refine w_aload_n (pc' := 22) dX0_remove_21 rfl rfl ?_
      -- at 22: .invokevirtual 157
      refine w_callV1 (pc' := 25) (mc := 3) (ms := 65) dX0_remove_22 rfl tX0_keep q383 rfl rfl qs6 q381 hof rfl (Nat.le_of_ble_eq_true rfl) (Nat.le_of_ble_eq_true rfl) ?_
      refine c_X0_keep hw hR hP hU p0 p1 (fun G1 t1 r1 => w_p0 ?_)
      obtain ⟨⟨pl, cl, N, b, rg⟩, r1⟩ := r1
      obtain ⟨hPo1, hPl1⟩ := (Rx_un r1).2.2.2.1.2 p p0 p1
      have hpr1 := Rx_prw r1 (rok_kp hR) (pok_kp hP) p0 p1
      obtain ⟨lf1, hlO1⟩ := lst_o hPl1
      refine w_aload_n (pc' := 26) dX0_remove_25 rfl rfl ?_
      refine w_get 0 (pc' := 29) dX0_remove_26 rfl fX0_140_3 hPo1 rfl ?_
      refine w_iload_n (pc' := 30) dX0_remove_29 rfl rfl ?_
      -- at 30: .invokevirtual 170
      refine w_callV1 (pc' := 33) (mc := 0) (ms := 0) dX0_remove_30 rfl tJ2_remove q473 rfl rfl q474 q472 hlO1 rfl (Nat.le_of_ble_eq_true rfl) (Nat.le_of_ble_eq_true rfl) ?_
      refine c_J2_remove hPl1 ⟨i0, i1⟩ ⟨_, rfl, Or.inr ⟨_, rfl, q1586⟩⟩ (prw_el hpr1) (fun G2 f2 l2 => w_p1 ?_)
      refine w_pop (pc' := 34) dX0_remove_33 rfl rfl ?_
      refine w_iconst (pc' := 35) dX0_remove_34 rfl (by decide) ?_
      -- at 35: .ireturn
      refine w_zreturn dX0_remove_35 rfl (by first | exact Or.inl rfl | exact Or.inr rfl | omega) ?_
      exact h1 ⟨⟨p0, p1⟩, i0, i1⟩ G2 (fun q hq => (f2 q (by omega)).trans (t1 q hq)) ⟨_, Rx_take r1 (pok_pmo (pok_kp hP)) p0 p1 i0 i1 f2 l2⟩
    · refine w_ifnonnull (pc' := 18) (tgt := 20) dX0_remove_15 rfl rfl (fun h_ => False.elim (h_ rfl)) (fun h_ => ?_)
      exact bad _ (fun q => g q.2)
  · refine w_ast3 (pc' := 6) dX0_remove_5 rfl rfl ?_
    refine w_aload_n (pc' := 7) dX0_remove_6 rfl rfl ?_
    -- at 7: .ifnull 11
    refine w_ifnull (pc' := 10) (tgt := 18) dX0_remove_7 rfl rfl (fun h_ => ?_) (fun h_ => False.elim (h_ rfl))
    exact bad _ (fun q => g q.1)
theorem c_X0_move {p i to : Int} (hw : Rx σ w G) (hR : rok σ) (hP : pok σ) (hU : uok σ) (h1 : (0 ≤ p ∧ p < σ.1 12) ∧ (0 ≤ i ∧ i < σ.2 11 p) ∧ 0 ≤ to ∧ to < σ.2 11 p → ∀ G', tfr G G' → Rel (sPutRow (sTake (sKeep σ p) p i) p to (rw_ σ p i)) G' → K (some (xI 1)) G') (h0 : ¬ ((0 ≤ p ∧ p < σ.1 12) ∧ (0 ≤ i ∧ i < σ.2 11 p) ∧ 0 ≤ to ∧ to < σ.2 11 p) → K (some (xI 0)) G) : tvW mX0_move (d + 7) K 0 [some (xR oR), some (xI p), some (xI i), some (xI to), none] [] G 4 165 := by
  have hof := hw.1
  unfold off at hof
  have bad : ∀ o, ¬ ((0 ≤ p ∧ p < σ.1 12) ∧ (0 ≤ i ∧ i < σ.2 11 p) ∧ 0 ≤ to ∧ to < σ.2 11 p) → tvW mX0_move (d + 7) K 30 [some (xR oR), some (xI p), some (xI i), some (xI to), some (xO o)] [] G 4 165 := by
    intro o q
    refine w_iconst (pc' := 31) dX0_move_30 rfl (by decide) ?_
    -- at 31: .ireturn
    refine w_zreturn dX0_move_31 rfl (by first | exact Or.inl rfl | exact Or.inr rfl | omega) ?_
    exact h0 q
  refine w_aload_n (pc' := 1) dX0_move_0 rfl rfl ?_
  refine w_iload_n (pc' := 2) dX0_move_1 rfl rfl ?_
  -- at 2: .invokevirtual 150
  refine w_callV1 (pc' := 5) (mc := 0) (ms := 0) dX0_move_2 rfl tX0_pattern_2 q375 rfl rfl qs4 q373 hof rfl (Nat.le_of_ble_eq_true rfl) (Nat.le_of_ble_eq_true rfl) ?_
  refine c_X0_pattern_2 hw (fun p0 p1 => w_p1 ?_) (fun g => w_p1 ?_)
  · obtain ⟨hPo, hPl⟩ := hw.2.2.2.1.2 p p0 p1
    have hpr := Rx_prw hw hR hP p0 p1
    have hM := (hP.2 p p0 p1).1
    refine w_ast4 (pc' := 7) dX0_move_5 rfl rfl ?_
    refine w_aload (pc' := 9) dX0_move_7 rfl rfl ?_
    -- at 9: .ifnull 21
    refine w_ifnull (pc' := 12) (tgt := 30) dX0_move_9 rfl rfl (fun h_ => False.elim (nomatch h_)) (fun h_ => ?_)
    refine w_aload (pc' := 14) dX0_move_12 rfl rfl ?_
    refine w_iload_n (pc' := 15) dX0_move_14 rfl rfl ?_
    -- at 15: .invokevirtual 166
    refine w_callV1 (pc' := 18) (mc := 0) (ms := 0) dX0_move_15 rfl tX4_row q466 rfl rfl q467 q465 hPo rfl (Nat.le_of_ble_eq_true rfl) (Nat.le_of_ble_eq_true rfl) ?_
    refine c_X4_row hPo hpr (fun i0 i1 => w_p1 ?_) (fun g => w_p1 ?_)
    · refine w_ifnull (pc' := 21) (tgt := 30) dX0_move_18 rfl rfl (fun h_ => False.elim (nomatch h_)) (fun h_ => ?_)
      refine w_aload (pc' := 23) dX0_move_21 rfl rfl ?_
      refine w_iload_n (pc' := 24) dX0_move_23 rfl rfl ?_
      -- at 24: .invokevirtual 166
      refine w_callV1 (pc' := 27) (mc := 0) (ms := 0) dX0_move_24 rfl tX4_row q466 rfl rfl q467 q465 hPo rfl (Nat.le_of_ble_eq_true rfl) (Nat.le_of_ble_eq_true rfl) ?_
      refine c_X4_row hPo hpr (fun j0 j1 => w_p1 ?_) (fun g => w_p1 ?_)
      · refine w_ifnonnull (pc' := 30) (tgt := 32) dX0_move_27 rfl rfl (fun h_ => ?_) (fun h_ => False.elim (nomatch h_))
        refine w_aload_n (pc' := 33) dX0_move_32 rfl rfl ?_
        refine w_aload (pc' := 35) dX0_move_33 rfl rfl ?_
        -- at 35: .invokevirtual 157
        refine w_callV1 (pc' := 38) (mc := 3) (ms := 65) dX0_move_35 rfl tX0_keep q383 rfl rfl qs6 q381 hof rfl (Nat.le_of_ble_eq_true rfl) (Nat.le_of_ble_eq_true rfl) ?_
        refine c_X0_keep hw hR hP hU p0 p1 (fun G1 t1 r1 => w_p0 ?_)
        obtain ⟨⟨pl, cl, N, b, rg⟩, r1⟩ := r1
        obtain ⟨hPo1, hPl1⟩ := (Rx_un r1).2.2.2.1.2 p p0 p1
        have hpr1 := Rx_prw r1 (rok_kp hR) (pok_kp hP) p0 p1
        have hel1 : lel G1 (σ.2 11 p) (fun i => some (rO (rw_ σ p i))) 5 := prw_el hpr1
        obtain ⟨lf1, hlO1⟩ := lst_o hPl1
        have hPl1 : lst G1 (pl p) (σ.2 11 p) (fun i => some (rO (rw_ σ p i))) := hPl1
        have hro : ∃ fs, G1 (rO (rw_ σ p i)) = some (xob 5 fs) := ⟨_, (hpr1.2 i i0 i1).1.1⟩
        obtain ⟨ro, hro⟩ := hro
        refine w_aload (pc' := 40) dX0_move_38 rfl rfl ?_
        refine w_get 0 (pc' := 43) dX0_move_40 rfl fX0_140_3 hPo1 rfl ?_
        refine w_iload_n (pc' := 44) dX0_move_43 rfl rfl ?_
        refine w_aload (pc' := 46) dX0_move_44 rfl rfl ?_
        refine w_get 0 (pc' := 49) dX0_move_46 rfl fX0_140_3 hPo1 rfl ?_
        refine w_iload_n (pc' := 50) dX0_move_49 rfl rfl ?_
        -- at 50: .invokevirtual 170
        refine w_callV1 (pc' := 53) (mc := 0) (ms := 0) dX0_move_50 rfl tJ2_remove q473 rfl rfl q474 q472 hlO1 rfl (Nat.le_of_ble_eq_true rfl) (Nat.le_of_ble_eq_true rfl) ?_
        refine c_J2_remove hPl1 ⟨i0, i1⟩ ⟨_, rfl, Or.inr ⟨_, rfl, q1586⟩⟩ hel1 (fun G2 f2 l2 => w_p1 ?_)
        have hro2 := (f2 (rO (rw_ σ p i)) (by simp only []; omega)).trans hro
        have el2 : lel G2 (σ.2 11 p - 1) (fun k => if k < i then some (rO (rw_ σ p k)) else some (rO (rw_ σ p (k + 1)))) 5 := by
          intro k k0 k1
          simp only []
          split
          · exact lel_fr hel1 f2 k k0 (by omega)
          · exact lel_fr hel1 f2 (k + 1) (by omega) (by omega)
        obtain ⟨lf2, hlO2⟩ := lst_o l2
        refine w_cast (pc' := 56) dX0_move_53 rfl hro2 rfl q425 ?_
        -- at 56: .invokevirtual 163
        refine w_callV2 (pc' := 59) (mc := 1) (ms := 100) dX0_move_56 rfl tJ2_add_3 q453 rfl rfl q454 q452 hlO2 rfl (Nat.le_of_ble_eq_true rfl) (Nat.le_of_ble_eq_true rfl) ?_
        refine c_J2_add_3 l2 (by omega) ⟨j0, by omega⟩ ⟨_, rfl, Or.inr ⟨_, rfl, q1586⟩⟩ el2 hro2 (Or.inl (by decide : (14 : Nat) < 30)) (fun G3 f3 l3 => w_p0 ?_)
        refine w_iconst (pc' := 60) dX0_move_59 rfl (by decide) ?_
        -- at 60: .ireturn
        refine w_zreturn dX0_move_60 rfl (by first | exact Or.inl rfl | exact Or.inr rfl | omega) ?_
        have r2 : Rx (sTake (sKeep σ p) p i) (pl, cl, N, b, rg) G2 := Rx_take r1 (pok_pmo (pok_kp hP)) p0 p1 i0 i1 f2 l2
        refine h1 ⟨⟨p0, p1⟩, ⟨i0, i1⟩, j0, j1⟩ G3 (fun q hq => ((f3 q (by omega)).trans (f2 q (by omega))).trans (t1 q hq)) ⟨_, Rx_putr (i := to) (r := rw_ σ p i) r2 ?_ p0 p1 j0 ?_ ?_ f3 ?_⟩
        · intro p' q0 q1
          show 0 ≤ iset (σ.2 11) p (σ.2 11 p - 1) p' ∧ iset (σ.2 11) p (σ.2 11 p - 1) p' ≤ 60
          have := (hP.2 p' q0 q1).1
          unfold iset
          split <;> omega
        · show to ≤ iset (σ.2 11) p (σ.2 11 p - 1) p
          unfold iset
          rw [if_pos rfl]
          omega
        · show iset (σ.2 11) p (σ.2 11 p - 1) p < 60
          unfold iset
          rw [if_pos rfl]
          omega
        · have e1 : (sTake (sKeep σ p) p i).2 11 p = σ.2 11 p - 1 := by
            show iset (σ.2 11) p (σ.2 11 p - 1) p = _
            unfold iset
            rw [if_pos rfl]
          have e2 : ∀ k, 0 ≤ k → k < σ.2 11 p - 1 → some (rO (rw_ (sTake (sKeep σ p) p i) p k)) = if k < i then some (rO (rw_ σ p k)) else some (rO (rw_ σ p (k + 1))) := by
            intro k k0 k1
            have e : rw_ (sTake (sKeep σ p) p i) p k = rfill (σ.2 10) (60 * p + i) (σ.2 11 p - 1 - i) (fun q => σ.2 10 (q + 1)) (60 * p + k) := rfl
            rw [e]
            unfold rfill
            by_cases c : k < i
            · rw [if_pos c, if_neg (by omega)]
              rfl
            · rw [if_neg c, if_pos (by omega)]
              simp only []
              rw [Int.add_assoc]
              rfl
          rw [e1]
          refine lst_c (fun k k0 k1 => ?_) l3
          by_cases c : k < to
          · rw [if_pos c, if_pos c, e2 k k0 (by omega)]
          · rw [if_neg c, if_neg c]
            by_cases c2 : k = to
            · rw [if_pos c2, if_pos c2]
            · rw [if_neg c2, if_neg c2, e2 (k - 1) (by omega) (by omega)]
      · refine w_ifnonnull (pc' := 30) (tgt := 32) dX0_move_27 rfl rfl (fun h_ => False.elim (h_ rfl)) (fun h_ => ?_)
        exact bad _ (fun q => g q.2.2)
    · refine w_ifnull (pc' := 21) (tgt := 30) dX0_move_18 rfl rfl (fun h_ => ?_) (fun h_ => False.elim (h_ rfl))
      exact bad _ (fun q => g q.2.1)
  · refine w_ast4 (pc' := 7) dX0_move_5 rfl rfl ?_
    refine w_aload (pc' := 9) dX0_move_7 rfl rfl ?_
    -- at 9: .ifnull 21
    refine w_ifnull (pc' := 12) (tgt := 30) dX0_move_9 rfl rfl (fun h_ => ?_) (fun h_ => False.elim (h_ rfl))
    exact bad _ (fun q => g q.1)
end
