set_option maxRecDepth 10000
section
variable {d : Nat} {K : Option XV → GH → Prop} {G0 G : GH} {bc bs : Nat} {σ : MS}
theorem lst_o {G : GH} {a n : Int} {f : Int → Option Rl} (h : lst G a n f) : ∃ fs, G (lO a) = some (xob 9 fs) := by
  obtain ⟨-, mc, j, c, e, hO, -⟩ := h
  exact ⟨_, hO⟩
theorem lst_le {G : GH} {a n : Int} {f : Int → Option Rl} (h : lst G a n f) : n ≤ 100 := by
  obtain ⟨-, mc, j, c, e, -, h⟩ := h
  have := h.2.1
  have := h.2.2.1
  omega
theorem lst_0 {G : GH} {a n : Int} {f : Int → Option Rl} (h : lst G a n f) : 0 ≤ n := h.1
/-- a list of rows -/
def prw (G : GH) (a n : Int) (ρ L O : Int → Int) (C : Int → Int → Int) : Prop := lst G a n (fun i => some (rO (ρ i))) ∧ ∀ i, 0 ≤ i → i < n → row G (ρ i) (L i) (O i) (C i) ∧ (0 ≤ L i ∧ L i ≤ 60) ∧ -30 ≤ O i ∧ O i ≤ 30
theorem prw_el {G : GH} {a n : Int} {ρ L O : Int → Int} {C : Int → Int → Int} (h : prw G a n ρ L O C) : lel G n (fun i => some (rO (ρ i))) 5 := fun i h0 h1 => ⟨_, _, rfl, Or.inl (by decide : (14 : Nat) < 30), (h.2 i h0 h1).1.1⟩
theorem c_X4_row {P : Rl} {a n i : Int} {ρ L O : Int → Int} {C : Int → Int → Int} (hP : G P = some (xob 3 [xR (lO a)])) (hl : prw G a n ρ L O C) (h1 : 0 ≤ i → i < n → K (some (xR (rO (ρ i)))) G) (h0 : ¬ (0 ≤ i ∧ i < n) → K (some xN) G) : tvW mX4_row (d + 3) K 0 [some (xR P), some (xI i)] [] G bc bs := by
  obtain ⟨fs, hO⟩ := lst_o hl.1
  have no : ¬ (0 ≤ i ∧ i < n) → tvW mX4_row (d + 3) K 29 [some (xR P), some (xI i)] [] G bc bs := by
    intro g
    refine w_null (pc' := 30) dX4_row_29 rfl ?_
    -- at 30: .areturn
    refine w_areturn dX4_row_30 rfl ?_
    exact h0 g
  refine w_iload_n (pc' := 1) dX4_row_0 rfl rfl ?_
  -- at 1: .ifCond .lt 28
  refine w_if_lt (pc' := 4) (tgt := 29) dX4_row_1 rfl rfl (fun g => ?_) (fun g => ?_)
  · exact no (by omega)
  · refine w_iload_n (pc' := 5) dX4_row_4 rfl rfl ?_
    refine w_aload_n (pc' := 6) dX4_row_5 rfl rfl ?_
    refine w_get 0 (pc' := 9) dX4_row_6 rfl fX4_10_3 hP rfl ?_
    -- at 9: .invokevirtual 16
    refine w_callV0 (pc' := 12) (mc := 0) (ms := 0) dX4_row_9 rfl tJ2_size q207 rfl rfl q208 q469 hO rfl (Nat.le_of_ble_eq_true rfl) (Nat.le_of_ble_eq_true rfl) ?_
    refine c_J2_size hl.1 ?_
    refine w_p1 ?_
    refine w_icmp_ge (pc' := 15) (tgt := 29) dX4_row_12 rfl rfl (fun g2 => ?_) (fun g2 => ?_)
    · exact no (by omega)
    · refine w_aload_n (pc' := 16) dX4_row_15 rfl rfl ?_
      refine w_get 0 (pc' := 19) dX4_row_16 rfl fX4_10_3 hP rfl ?_
      refine w_iload_n (pc' := 20) dX4_row_19 rfl rfl ?_
      -- at 20: .invokevirtual 20
      refine w_callV1 (pc' := 23) (mc := 0) (ms := 0) dX4_row_20 rfl tJ2_get q211 rfl rfl q212 q470 hO rfl (Nat.le_of_ble_eq_true rfl) (Nat.le_of_ble_eq_true rfl) ?_
      refine c_J2_get hl.1 ⟨by omega, by omega⟩ ?_
      refine w_p1 ?_
      refine w_cast (pc' := 26) dX4_row_23 rfl (hl.2 i (by omega) (by omega)).1.1 rfl q471 ?_
      refine w_goto (tgt := 30) dX4_row_26 rfl ?_
      -- at 30: .areturn
      refine w_areturn dX4_row_30 rfl ?_
      exact h1 (by omega) (by omega)
theorem c_X4_at {P : Rl} {a n i j : Int} {ρ L O : Int → Int} {C : Int → Int → Int} (hP : G P = some (xob 3 [xR (lO a)])) (hl : prw G a n ρ L O C) (h1 : (0 ≤ i ∧ i < n) → O i ≤ j → j < O i + L i → K (some (xR (rO (ρ i)))) G) (h0 : ¬ ((0 ≤ i ∧ i < n) ∧ O i ≤ j ∧ j < O i + L i) → K (some xN) G) : tvW mX4_at (d + 4) K 0 [some (xR P), some (xI i), some (xI j), none] [] G bc bs := by
  have no : ∀ x : Option Rl, ¬ ((0 ≤ i ∧ i < n) ∧ O i ≤ j ∧ j < O i + L i) → tvW mX4_at (d + 4) K 22 [some (xR P), some (xI i), some (xI j), some (xO x)] [] G bc bs := by
    intro x g
    refine w_null (pc' := 23) dX4_at_22 rfl ?_
    -- at 23: .areturn
    refine w_areturn dX4_at_23 rfl ?_
    exact h0 g
  refine w_aload_n (pc' := 1) dX4_at_0 rfl rfl ?_
  refine w_iload_n (pc' := 2) dX4_at_1 rfl rfl ?_
  -- at 2: .invokevirtual 26
  refine w_callV1 (pc' := 5) (mc := 0) (ms := 0) dX4_at_2 rfl tX4_row q466 rfl rfl q467 q492 hP rfl (Nat.le_of_ble_eq_true rfl) (Nat.le_of_ble_eq_true rfl) ?_
  refine c_X4_row hP hl (fun i0 i1 => w_p1 ?_) (fun g => w_p1 ?_)
  · refine w_ast3 (pc' := 6) dX4_at_5 rfl rfl ?_
    refine w_aload_n (pc' := 7) dX4_at_6 rfl rfl ?_
    -- at 7: .ifnull 15
    refine w_ifnull (pc' := 10) (tgt := 22) dX4_at_7 rfl rfl (fun h_ => False.elim (nomatch h_)) (fun h_ => ?_)
    refine w_aload_n (pc' := 11) dX4_at_10 rfl rfl ?_
    refine w_iload_n (pc' := 12) dX4_at_11 rfl rfl ?_
    -- at 12: .invokevirtual 30
    obtain ⟨hr, hL, hOf⟩ := hl.2 i i0 i1
    refine w_callV1 (pc' := 15) (mc := 0) (ms := 0) dX4_at_12 rfl tX6_has q494 rfl rfl q495 q493 hr.1 rfl (Nat.le_of_ble_eq_true rfl) (Nat.le_of_ble_eq_true rfl) ?_
    refine c_X6_has hr hL.2 hOf (fun g1 g2 => w_p1 ?_) (fun g => w_p1 ?_)
    · refine w_if_eq (pc' := 18) (tgt := 22) dX4_at_15 rfl rfl (fun h_ => False.elim (by first | omega | (simp (decide := true) only [au_1, nu_2, au_lt, nu_lt, aw_e, nw_e, au_s, au_n, nu_s, nu_n, au_au, nu_nu, au_nu] at h_; omega))) (fun h_ => ?_)
      refine w_aload_n (pc' := 19) dX4_at_18 rfl rfl ?_
      refine w_goto (tgt := 23) dX4_at_19 rfl ?_
      -- at 23: .areturn
      refine w_areturn dX4_at_23 rfl ?_
      exact h1 ⟨i0, i1⟩ g1 g2
    · refine w_if_eq (pc' := 18) (tgt := 22) dX4_at_15 rfl rfl (fun h_ => ?_) (fun h_ => False.elim (h_ rfl))
      exact no _ (fun q => g q.2)
  · refine w_ast3 (pc' := 6) dX4_at_5 rfl rfl ?_
    refine w_aload_n (pc' := 7) dX4_at_6 rfl rfl ?_
    -- at 7: .ifnull 15
    refine w_ifnull (pc' := 10) (tgt := 22) dX4_at_7 rfl rfl (fun h_ => ?_) (fun h_ => False.elim (h_ rfl))
    exact no _ (fun q => g q.1)
theorem c_X4_columns {P : Rl} {a n : Int} {ρ L O : Int → Int} {C : Int → Int → Int} (hP : G P = some (xob 3 [xR (lO a)])) (hl : prw G a n ρ L O C) (hn : 0 < n) (h : K (some (xI (L 0))) G) : tvW mX4_columns (d + 3) K 0 [some (xR P)] [] G bc bs := by
  obtain ⟨fs, hO⟩ := lst_o hl.1
  obtain ⟨⟨hr, m, fk, fm, fs, hm, hk, -⟩, hL, hOf⟩ := hl.2 0 (by omega) hn
  refine w_aload_n (pc' := 1) dX4_columns_0 rfl rfl ?_
  refine w_get 0 (pc' := 4) dX4_columns_1 rfl fX4_10_3 hP rfl ?_
  refine w_iconst (pc' := 5) dX4_columns_4 rfl (by decide) ?_
  -- at 5: .invokevirtual 20
  refine w_callV1 (pc' := 8) (mc := 0) (ms := 0) dX4_columns_5 rfl tJ2_get q211 rfl rfl q212 q470 hO rfl (Nat.le_of_ble_eq_true rfl) (Nat.le_of_ble_eq_true rfl) ?_
  refine c_J2_get hl.1 ⟨by omega, by omega⟩ ?_
  refine w_p1 ?_
  refine w_cast (pc' := 11) dX4_columns_8 rfl hr rfl q471 ?_
  refine w_get 0 (pc' := 14) dX4_columns_11 rfl fX4_34_5 hr rfl ?_
  refine w_alen (pc' := 15) dX4_columns_14 rfl hk ?_
  -- at 15: .ireturn
  refine w_ireturn dX4_columns_15 rfl ?_
  rw [hm]
  exact h
theorem c_X4_isFull {P : Rl} {a n : Int} {ρ L O : Int → Int} {C : Int → Int → Int} (hP : G P = some (xob 3 [xR (lO a)])) (hl : prw G a n ρ L O C) (h1 : (0 < n ∧ 0 < L 0 ∧ ∀ i, 0 ≤ i → i < n → O i = 0 ∧ L i = L 0) → K (some (xI 1)) G) (h0 : ¬ (0 < n ∧ 0 < L 0 ∧ ∀ i, 0 ≤ i → i < n → O i = 0 ∧ L i = L 0) → K (some (xI 0)) G) : tvW mX4_isFull (d + 3) K 0 [some (xR P), none, none, none] [] G bc bs := by
  obtain ⟨fs, hO⟩ := lst_o hl.1
  have hn0 := lst_0 hl.1
  have hn1 := lst_le hl.1
  refine w_aload_n (pc' := 1) dX4_isFull_0 rfl rfl ?_
  refine w_get 0 (pc' := 4) dX4_isFull_1 rfl fX4_10_3 hP rfl ?_
  -- at 4: .invokevirtual 38
  refine w_callV0 (pc' := 7) (mc := 0) (ms := 0) dX4_isFull_4 rfl tJ2_isEmpty q828 rfl rfl q829 q827 hO rfl (Nat.le_of_ble_eq_true rfl) (Nat.le_of_ble_eq_true rfl) ?_
  refine c_J2_isEmpty hl.1 (fun g => w_p1 ?_) (fun g => w_p1 ?_)
  · refine w_if_eq (pc' := 10) (tgt := 12) dX4_isFull_7 rfl rfl (fun h_ => False.elim (by first | omega | (simp (decide := true) only [au_1, nu_2, au_lt, nu_lt, aw_e, nw_e, au_s, au_n, nu_s, nu_n, au_au, nu_nu, au_nu] at h_; omega))) (fun h_ => ?_)
    refine w_iconst (pc' := 11) dX4_isFull_10 rfl (by decide) ?_
    -- at 11: .ireturn
    refine w_zreturn dX4_isFull_11 rfl (by first | exact Or.inl rfl | exact Or.inr rfl | omega) ?_
    exact h0 (by omega)
  · refine w_if_eq (pc' := 10) (tgt := 12) dX4_isFull_7 rfl rfl (fun h_ => ?_) (fun h_ => False.elim (h_ rfl))
    obtain ⟨⟨hr, m, fk, fm, fs, hm, hk, -⟩, hL, hOf⟩ := hl.2 0 (by omega) (by omega)
    have fin : ∀ (i b : Int), (b = 1 → (0 < n ∧ 0 < L 0 ∧ ∀ i, 0 ≤ i → i < n → O i = 0 ∧ L i = L 0)) → (b = 0 → ¬ (0 < n ∧ 0 < L 0 ∧ ∀ i, 0 ≤ i → i < n → O i = 0 ∧ L i = L 0)) → (b = 0 ∨ b = 1) → tvW mX4_isFull (d + 3) K 103 [some (xR P), some (xI (L 0)), some (xI b), some (xI i)] [] G bc bs := by
      intro i b b1 b0 hb
      refine w_iload_n (pc' := 104) dX4_isFull_103 rfl rfl ?_
      -- at 104: .ireturn
      refine w_zreturn dX4_isFull_104 rfl hb ?_
      rcases hb with rfl | rfl
      · exact h0 (b0 rfl)
      · exact h1 (b1 rfl)
    have bad : ∀ i : Int, 0 ≤ i → ¬ (0 < n ∧ 0 < L 0 ∧ ∀ i, 0 ≤ i → i < n → O i = 0 ∧ L i = L 0) → tvW mX4_isFull (d + 3) K 40 [some (xR P), some (xI (L 0)), some (xI 0), some (xI i)] [] G bc bs := by
      intro i i0 g
      refine w_iload_n (pc' := 41) dX4_isFull_40 rfl rfl ?_
      refine w_aload_n (pc' := 42) dX4_isFull_41 rfl rfl ?_
      refine w_get 0 (pc' := 45) dX4_isFull_42 rfl fX4_10_3 hP rfl ?_
      -- at 45: .invokevirtual 16
      refine w_callV0 (pc' := 48) (mc := 0) (ms := 0) dX4_isFull_45 rfl tJ2_size q207 rfl rfl q208 q469 hO rfl (Nat.le_of_ble_eq_true rfl) (Nat.le_of_ble_eq_true rfl) ?_
      refine c_J2_size hl.1 ?_
      refine w_p1 ?_
      refine w_icmp_ge (pc' := 51) (tgt := 103) dX4_isFull_48 rfl rfl (fun g2 => ?_) (fun g2 => ?_)
      · exact fin i 0 (fun q => by omega) (fun _ => g) (Or.inl rfl)
      · refine w_iload_n (pc' := 52) dX4_isFull_51 rfl rfl ?_
        -- at 52: .ifCond .eq 51
        refine w_if_eq (pc' := 55) (tgt := 103) dX4_isFull_52 rfl rfl (fun h_ => ?_) (fun h_ => False.elim (h_ rfl))
        exact fin i 0 (fun q => by omega) (fun _ => g) (Or.inl rfl)
    refine w_aload_n (pc' := 13) dX4_isFull_12 rfl rfl ?_
    refine w_get 0 (pc' := 16) dX4_isFull_13 rfl fX4_10_3 hP rfl ?_
    refine w_iconst (pc' := 17) dX4_isFull_16 rfl (by decide) ?_
    -- at 17: .invokevirtual 20
    refine w_callV1 (pc' := 20) (mc := 0) (ms := 0) dX4_isFull_17 rfl tJ2_get q211 rfl rfl q212 q470 hO rfl (Nat.le_of_ble_eq_true rfl) (Nat.le_of_ble_eq_true rfl) ?_
    refine c_J2_get hl.1 ⟨by omega, by omega⟩ ?_
    refine w_p1 ?_
    refine w_cast (pc' := 23) dX4_isFull_20 rfl hr rfl q471 ?_
    refine w_get 0 (pc' := 26) dX4_isFull_23 rfl fX4_34_5 hr rfl ?_
    refine w_alen (pc' := 27) dX4_isFull_26 rfl hk ?_
    refine w_ist1 (pc' := 28) dX4_isFull_27 rfl rfl ?_
    refine w_iload_n (pc' := 29) dX4_isFull_28 rfl rfl ?_
    -- at 29: .ifCond .le 7
    rw [hm]
    refine w_if_le (pc' := 32) (tgt := 36) dX4_isFull_29 rfl rfl (fun g3 => ?_) (fun g3 => ?_)
    · refine w_iconst (pc' := 37) dX4_isFull_36 rfl (by decide) ?_
      refine w_ist2 (pc' := 38) dX4_isFull_37 rfl rfl ?_
      refine w_iconst (pc' := 39) dX4_isFull_38 rfl (by decide) ?_
      refine w_ist3 (pc' := 40) dX4_isFull_39 rfl rfl ?_
      -- at 40: .iload_n 3
      exact bad 0 (by omega) (fun q => by omega)
    · refine w_iconst (pc' := 33) dX4_isFull_32 rfl (by decide) ?_
      refine w_goto (tgt := 37) dX4_isFull_33 rfl ?_
      refine w_ist2 (pc' := 38) dX4_isFull_37 rfl rfl ?_
      refine w_iconst (pc' := 39) dX4_isFull_38 rfl (by decide) ?_
      refine w_ist3 (pc' := 40) dX4_isFull_39 rfl rfl ?_
      -- at 40: .iload_n 3
      refine up (T := fun i => 0 ≤ i → (∀ j, 0 ≤ j → j < i → O j = 0 ∧ L j = L 0) → tvW mX4_isFull (d + 3) K 40 [some (xR P), some (xI (L 0)), some (xI 1), some (xI i)] [] G bc bs) n hn0 ?_ ?_ (by omega) (fun j j0 j1 => by omega)
      · intro _ x
        refine w_iload_n (pc' := 41) dX4_isFull_40 rfl rfl ?_
        refine w_aload_n (pc' := 42) dX4_isFull_41 rfl rfl ?_
        refine w_get 0 (pc' := 45) dX4_isFull_42 rfl fX4_10_3 hP rfl ?_
        -- at 45: .invokevirtual 16
        refine w_callV0 (pc' := 48) (mc := 0) (ms := 0) dX4_isFull_45 rfl tJ2_size q207 rfl rfl q208 q469 hO rfl (Nat.le_of_ble_eq_true rfl) (Nat.le_of_ble_eq_true rfl) ?_
        refine c_J2_size hl.1 ?_
        refine w_p1 ?_
        refine w_icmp_ge (pc' := 51) (tgt := 103) dX4_isFull_48 rfl rfl (fun h_ => ?_) (fun h_ => False.elim (by first | omega | (simp (decide := true) only [au_1, nu_2, au_lt, nu_lt, aw_e, nw_e, au_s, au_n, nu_s, nu_n, au_au, nu_nu, au_nu] at h_; omega)))
        exact fin n 1 (fun _ => ⟨by omega, by omega, x⟩) (fun q => by omega) (Or.inr rfl)
      · intro i i1 i2 ih i0 x
        obtain ⟨⟨hr, m2, fk2, fm2, fs2, hm2, hk2, -⟩, hL2, hOf2⟩ := hl.2 i i0 i2
        refine w_iload_n (pc' := 41) dX4_isFull_40 rfl rfl ?_
        refine w_aload_n (pc' := 42) dX4_isFull_41 rfl rfl ?_
        refine w_get 0 (pc' := 45) dX4_isFull_42 rfl fX4_10_3 hP rfl ?_
        -- at 45: .invokevirtual 16
        refine w_callV0 (pc' := 48) (mc := 0) (ms := 0) dX4_isFull_45 rfl tJ2_size q207 rfl rfl q208 q469 hO rfl (Nat.le_of_ble_eq_true rfl) (Nat.le_of_ble_eq_true rfl) ?_
        refine c_J2_size hl.1 ?_
        refine w_p1 ?_
        refine w_icmp_ge (pc' := 51) (tgt := 103) dX4_isFull_48 rfl rfl (fun h_ => False.elim (by first | omega | (simp (decide := true) only [au_1, nu_2, au_lt, nu_lt, aw_e, nw_e, au_s, au_n, nu_s, nu_n, au_au, nu_nu, au_nu] at h_; omega))) (fun h_ => ?_)
        refine w_iload_n (pc' := 52) dX4_isFull_51 rfl rfl ?_
        -- at 52: .ifCond .eq 51
        refine w_if_eq (pc' := 55) (tgt := 103) dX4_isFull_52 rfl rfl (fun h_ => False.elim (by first | omega | (simp (decide := true) only [au_1, nu_2, au_lt, nu_lt, aw_e, nw_e, au_s, au_n, nu_s, nu_n, au_au, nu_nu, au_nu] at h_; omega))) (fun h_ => ?_)
        refine w_aload_n (pc' := 56) dX4_isFull_55 rfl rfl ?_
        refine w_get 0 (pc' := 59) dX4_isFull_56 rfl fX4_10_3 hP rfl ?_
        refine w_iload_n (pc' := 60) dX4_isFull_59 rfl rfl ?_
        -- at 60: .invokevirtual 20
        refine w_callV1 (pc' := 63) (mc := 0) (ms := 0) dX4_isFull_60 rfl tJ2_get q211 rfl rfl q212 q470 hO rfl (Nat.le_of_ble_eq_true rfl) (Nat.le_of_ble_eq_true rfl) ?_
        refine c_J2_get hl.1 ⟨by omega, by omega⟩ ?_
        refine w_p1 ?_
        refine w_cast (pc' := 66) dX4_isFull_63 rfl hr rfl q471 ?_
        refine w_get 3 (pc' := 69) dX4_isFull_66 rfl fX4_42_5 hr rfl ?_
        -- at 69: .ifCond .ne 26
        refine w_if_ne (pc' := 72) (tgt := 95) dX4_isFull_69 rfl rfl (fun g5 => ?_) (fun g5 => ?_)
        · refine w_iconst (pc' := 96) dX4_isFull_95 rfl (by decide) ?_
          refine w_ist2 (pc' := 97) dX4_isFull_96 rfl rfl ?_
          refine w_inc3 (pc' := 100) dX4_isFull_97 rfl rfl ⟨by first | omega | (simp (decide := true) only [au_1, nu_2, au_lt, nu_lt, aw_e, nw_e, au_s, au_n, nu_s, nu_n, au_au, nu_nu, au_nu]; omega), by first | omega | (simp (decide := true) only [au_1, nu_2, au_lt, nu_lt, aw_e, nw_e, au_s, au_n, nu_s, nu_n, au_au, nu_nu, au_nu]; omega)⟩ ?_
          refine w_goto (tgt := 40) dX4_isFull_100 rfl ?_
          -- at 40: .iload_n 3
          exact bad (i + 1) (by omega) (fun q => g5 (q.2.2 i i0 i2).1)
        · refine w_aload_n (pc' := 73) dX4_isFull_72 rfl rfl ?_
          refine w_get 0 (pc' := 76) dX4_isFull_73 rfl fX4_10_3 hP rfl ?_
          refine w_iload_n (pc' := 77) dX4_isFull_76 rfl rfl ?_
          -- at 77: .invokevirtual 20
          refine w_callV1 (pc' := 80) (mc := 0) (ms := 0) dX4_isFull_77 rfl tJ2_get q211 rfl rfl q212 q470 hO rfl (Nat.le_of_ble_eq_true rfl) (Nat.le_of_ble_eq_true rfl) ?_
          refine c_J2_get hl.1 ⟨by omega, by omega⟩ ?_
          refine w_p1 ?_
          refine w_cast (pc' := 83) dX4_isFull_80 rfl hr rfl q471 ?_
          refine w_get 0 (pc' := 86) dX4_isFull_83 rfl fX4_34_5 hr rfl ?_
          refine w_alen (pc' := 87) dX4_isFull_86 rfl hk2 ?_
          refine w_iload_n (pc' := 88) dX4_isFull_87 rfl rfl ?_
          -- at 88: .if_icmp .ne 7
          rw [hm2]
          refine w_icmp_ne (pc' := 91) (tgt := 95) dX4_isFull_88 rfl rfl (fun g6 => ?_) (fun g6 => ?_)
          · refine w_iconst (pc' := 96) dX4_isFull_95 rfl (by decide) ?_
            refine w_ist2 (pc' := 97) dX4_isFull_96 rfl rfl ?_
            refine w_inc3 (pc' := 100) dX4_isFull_97 rfl rfl ⟨by first | omega | (simp (decide := true) only [au_1, nu_2, au_lt, nu_lt, aw_e, nw_e, au_s, au_n, nu_s, nu_n, au_au, nu_nu, au_nu]; omega), by first | omega | (simp (decide := true) only [au_1, nu_2, au_lt, nu_lt, aw_e, nw_e, au_s, au_n, nu_s, nu_n, au_au, nu_nu, au_nu]; omega)⟩ ?_
            refine w_goto (tgt := 40) dX4_isFull_100 rfl ?_
            -- at 40: .iload_n 3
            exact bad (i + 1) (by omega) (fun q => g6 (q.2.2 i i0 i2).2)
          · refine w_iconst (pc' := 92) dX4_isFull_91 rfl (by decide) ?_
            refine w_goto (tgt := 96) dX4_isFull_92 rfl ?_
            refine w_ist2 (pc' := 97) dX4_isFull_96 rfl rfl ?_
            refine w_inc3 (pc' := 100) dX4_isFull_97 rfl rfl ⟨by first | omega | (simp (decide := true) only [au_1, nu_2, au_lt, nu_lt, aw_e, nw_e, au_s, au_n, nu_s, nu_n, au_au, nu_nu, au_nu]; omega), by first | omega | (simp (decide := true) only [au_1, nu_2, au_lt, nu_lt, aw_e, nw_e, au_s, au_n, nu_s, nu_n, au_au, nu_nu, au_nu]; omega)⟩ ?_
            refine w_goto (tgt := 40) dX4_isFull_100 rfl ?_
            -- at 40: .iload_n 3
            refine ih (by omega) (fun j j0 j1 => ?_)
            by_cases e : j = i
            · rw [e]; exact ⟨g5, g6⟩
            · exact x j j0 (by omega)
end
