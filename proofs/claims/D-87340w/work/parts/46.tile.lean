set_option maxRecDepth 10000
theorem thn_c {a b : Int} (h0 : 0 ≤ a) (h1 : a < 8) (g0 : 0 ≤ b) (g1 : b < 8) : bOr (bShl (bXor (a / 4) (b / 4)) 2) (bAnd (if b / 4 = 1 then b % 4 - a % 4 else b % 4 + a % 4) 3) = thn a b := all8b (P := fun a b => bOr (bShl (bXor (a / 4) (b / 4)) 2) (bAnd (if b / 4 = 1 then b % 4 - a % 4 else b % 4 + a % 4) 3) = thn a b) (by decide +kernel) h0 h1 g0 g1
theorem lie_1 {m : Int} (h0 : 0 ≤ m) (h1 : m < 8) : bOr (bAnd m 4) (m % 4 % 1) = m / 4 * 4 + m % 4 % 1 ∧ bOr (bAnd m 4) (m % 4 % 2) = m / 4 * 4 + m % 4 % 2 ∧ bOr (bAnd m 4) (m % 4 % 4) = m / 4 * 4 + m % 4 % 4 ∧ bOr 0 (m % 4 % 1) = 0 + m % 4 % 1 ∧ bOr 0 (m % 4 % 2) = 0 + m % 4 % 2 ∧ bOr 0 (m % 4 % 4) = 0 + m % 4 % 4 :=
  all8 (P := fun m => bOr (bAnd m 4) (m % 4 % 1) = m / 4 * 4 + m % 4 % 1 ∧ bOr (bAnd m 4) (m % 4 % 2) = m / 4 * 4 + m % 4 % 2 ∧ bOr (bAnd m 4) (m % 4 % 4) = m / 4 * 4 + m % 4 % 4 ∧ bOr 0 (m % 4 % 1) = 0 + m % 4 % 1 ∧ bOr 0 (m % 4 % 2) = 0 + m % 4 % 2 ∧ bOr 0 (m % 4 % 4) = 0 + m % 4 % 4) (by decide +kernel) h0 h1
theorem lie_c {mir t m : Int} (ht : t = 1 ∨ t = 2 ∨ t = 4) (h0 : 0 ≤ m) (h1 : m < 8) : bOr (if mir = 0 then 0 else bAnd m 4) (m % 4 % t) = lie mir t m := by
  obtain ⟨a1, a2, a3, a4, a5, a6⟩ := lie_1 h0 h1
  unfold lie
  rcases ht with rfl | rfl | rfl <;> split <;> assumption
section
variable {d : Nat} {K : Option XV → GH → Prop} {G0 G : GH} {bc bs : Nat} {σ : MS}
theorem c_X3_mirror {m : Int} (hm : rg m) (h : K (some (xI (m / 4))) G) : tvW mX3_mirror d K 0 [some (xI m)] [] G bc bs := by
  refine w_iload_n (pc' := 1) dX3_mirror_0 rfl rfl ?_
  refine w_iconst (pc' := 2) dX3_mirror_1 rfl (by decide) ?_
  refine w_ishr (pc' := 3) dX3_mirror_2 rfl ?_
  -- at 3: .ireturn
  refine w_ireturn dX3_mirror_3 rfl ?_
  rw [bShr_2 hm]
  exact h
theorem c_X3_turns {m : Int} (h : K (some (xI (m % 4))) G) : tvW mX3_turns d K 0 [some (xI m)] [] G bc bs := by
  refine w_iload_n (pc' := 1) dX3_turns_0 rfl rfl ?_
  refine w_iconst (pc' := 2) dX3_turns_1 rfl (by decide) ?_
  refine w_iand (pc' := 3) dX3_turns_2 rfl ?_
  -- at 3: .ireturn
  refine w_ireturn dX3_turns_3 rfl ?_
  rw [bAnd_3]
  exact h
theorem c_X3_then {a b : Int} (ha : 0 ≤ a ∧ a < 8) (hb : 0 ≤ b ∧ b < 8) (h : K (some (xI (thn a b))) G) : tvW mX3_then (d + 1) K 0 [some (xI a), some (xI b), none] [] G bc bs := by
  have e := thn_c ha.1 ha.2 hb.1 hb.2
  have go : ∀ t : Int, bOr (bShl (bXor (a / 4) (b / 4)) 2) (bAnd t 3) = thn a b → tvW mX3_then (d + 1) K 29 [some (xI a), some (xI b), none] [xI t] G bc bs := by
    intro t ht
    refine w_ist2 (pc' := 30) dX3_then_29 rfl rfl ?_
    refine w_iload_n (pc' := 31) dX3_then_30 rfl rfl ?_
    -- at 31: .invokestatic 7
    refine w_callS1 (pc' := 34) (mc := 0) (ms := 0) dX3_then_31 rfl tX3_mirror q342 q341 rfl (Nat.le_of_ble_eq_true rfl) (Nat.le_of_ble_eq_true rfl) ?_
    refine c_X3_mirror ⟨by omega, by omega⟩ ?_
    refine w_p1 ?_
    refine w_iload_n (pc' := 35) dX3_then_34 rfl rfl ?_
    -- at 35: .invokestatic 7
    refine w_callS1 (pc' := 38) (mc := 0) (ms := 0) dX3_then_35 rfl tX3_mirror q342 q341 rfl (Nat.le_of_ble_eq_true rfl) (Nat.le_of_ble_eq_true rfl) ?_
    refine c_X3_mirror ⟨by omega, by omega⟩ ?_
    refine w_p1 ?_
    refine w_ixor (pc' := 39) dX3_then_38 rfl ?_
    refine w_iconst (pc' := 40) dX3_then_39 rfl (by decide) ?_
    refine w_ishl (pc' := 41) dX3_then_40 rfl ?_
    refine w_iload_n (pc' := 42) dX3_then_41 rfl rfl ?_
    refine w_iconst (pc' := 43) dX3_then_42 rfl (by decide) ?_
    refine w_iand (pc' := 44) dX3_then_43 rfl ?_
    refine w_ior (pc' := 45) dX3_then_44 rfl ?_
    -- at 45: .ireturn
    refine w_ireturn dX3_then_45 rfl ?_
    rw [ht]
    exact h
  refine w_iload_n (pc' := 1) dX3_then_0 rfl rfl ?_
  -- at 1: .invokestatic 7
  refine w_callS1 (pc' := 4) (mc := 0) (ms := 0) dX3_then_1 rfl tX3_mirror q342 q341 rfl (Nat.le_of_ble_eq_true rfl) (Nat.le_of_ble_eq_true rfl) ?_
  refine c_X3_mirror ⟨by omega, by omega⟩ ?_
  refine w_p1 ?_
  refine w_iconst (pc' := 5) dX3_then_4 rfl (by decide) ?_
  -- at 5: .if_icmp .ne 15
  refine w_icmp_ne (pc' := 8) (tgt := 20) dX3_then_5 rfl rfl (fun g => ?_) (fun g => ?_)
  · refine w_iload_n (pc' := 21) dX3_then_20 rfl rfl ?_
    -- at 21: .invokestatic 13
    refine w_callS1 (pc' := 24) (mc := 0) (ms := 0) dX3_then_21 rfl tX3_turns q331 q340 rfl (Nat.le_of_ble_eq_true rfl) (Nat.le_of_ble_eq_true rfl) ?_
    refine c_X3_turns ?_
    refine w_p1 ?_
    refine w_iload_n (pc' := 25) dX3_then_24 rfl rfl ?_
    -- at 25: .invokestatic 13
    refine w_callS1 (pc' := 28) (mc := 0) (ms := 0) dX3_then_25 rfl tX3_turns q331 q340 rfl (Nat.le_of_ble_eq_true rfl) (Nat.le_of_ble_eq_true rfl) ?_
    refine c_X3_turns ?_
    refine w_p1 ?_
    refine w_iadd (pc' := 29) dX3_then_28 rfl ⟨by first | omega | (simp (decide := true) only [au_1, nu_2, au_lt, nu_lt, aw_e, nw_e, au_s, au_n, nu_s, nu_n, au_au, nu_nu, au_nu]; omega), by first | omega | (simp (decide := true) only [au_1, nu_2, au_lt, nu_lt, aw_e, nw_e, au_s, au_n, nu_s, nu_n, au_au, nu_nu, au_nu]; omega)⟩ ?_
    -- at 29: .istore_n 2
    exact go _ (by rw [if_neg g] at e; exact e)
  · refine w_iload_n (pc' := 9) dX3_then_8 rfl rfl ?_
    -- at 9: .invokestatic 13
    refine w_callS1 (pc' := 12) (mc := 0) (ms := 0) dX3_then_9 rfl tX3_turns q331 q340 rfl (Nat.le_of_ble_eq_true rfl) (Nat.le_of_ble_eq_true rfl) ?_
    refine c_X3_turns ?_
    refine w_p1 ?_
    refine w_iload_n (pc' := 13) dX3_then_12 rfl rfl ?_
    -- at 13: .invokestatic 13
    refine w_callS1 (pc' := 16) (mc := 0) (ms := 0) dX3_then_13 rfl tX3_turns q331 q340 rfl (Nat.le_of_ble_eq_true rfl) (Nat.le_of_ble_eq_true rfl) ?_
    refine c_X3_turns ?_
    refine w_p1 ?_
    refine w_isub (pc' := 17) dX3_then_16 rfl ⟨by first | omega | (simp (decide := true) only [au_1, nu_2, au_lt, nu_lt, aw_e, nw_e, au_s, au_n, nu_s, nu_n, au_au, nu_nu, au_nu]; omega), by first | omega | (simp (decide := true) only [au_1, nu_2, au_lt, nu_lt, aw_e, nw_e, au_s, au_n, nu_s, nu_n, au_au, nu_nu, au_nu]; omega)⟩ ?_
    refine w_goto (tgt := 29) dX3_then_17 rfl ?_
    -- at 29: .istore_n 2
    exact go _ (by rw [if_pos g] at e; exact e)
theorem c_X3_edge {m e : Int} (hm : 0 ≤ m ∧ m < 8) (he : 0 ≤ e ∧ e < 4) (h : K (some (xI (edg m e))) G) : tvW mX3_edge (d + 1) K 0 [some (xI m), some (xI e), none] [] G bc bs := by
  have e3 : bAnd (e - m % 4) 3 = (e - m) % 4 := by rw [bAnd_3]; omega
  have e1 := bAnd_1 ((e - m) % 4)
  have no : ¬ (m / 4 = 1 ∧ (e - m) % 4 % 2 = 1) → tvW mX3_edge (d + 1) K 30 [some (xI m), some (xI e), some (xI ((e - m) % 4))] [] G bc bs := by
    intro q
    refine w_iload_n (pc' := 31) dX3_edge_30 rfl rfl ?_
    -- at 31: .ireturn
    refine w_ireturn dX3_edge_31 rfl ?_
    unfold edg at h
    rw [if_neg q] at h
    exact h
  refine w_iload_n (pc' := 1) dX3_edge_0 rfl rfl ?_
  refine w_iload_n (pc' := 2) dX3_edge_1 rfl rfl ?_
  -- at 2: .invokestatic 13
  refine w_callS1 (pc' := 5) (mc := 0) (ms := 0) dX3_edge_2 rfl tX3_turns q331 q340 rfl (Nat.le_of_ble_eq_true rfl) (Nat.le_of_ble_eq_true rfl) ?_
  refine c_X3_turns ?_
  refine w_p1 ?_
  refine w_isub (pc' := 6) dX3_edge_5 rfl ⟨by first | omega | (simp (decide := true) only [au_1, nu_2, au_lt, nu_lt, aw_e, nw_e, au_s, au_n, nu_s, nu_n, au_au, nu_nu, au_nu]; omega), by first | omega | (simp (decide := true) only [au_1, nu_2, au_lt, nu_lt, aw_e, nw_e, au_s, au_n, nu_s, nu_n, au_au, nu_nu, au_nu]; omega)⟩ ?_
  refine w_iconst (pc' := 7) dX3_edge_6 rfl (by decide) ?_
  refine w_iand (pc' := 8) dX3_edge_7 rfl ?_
  -- at 8: .istore_n 2
  rw [e3]
  refine w_ist2 (pc' := 9) dX3_edge_8 rfl rfl ?_
  refine w_iload_n (pc' := 10) dX3_edge_9 rfl rfl ?_
  -- at 10: .invokestatic 7
  refine w_callS1 (pc' := 13) (mc := 0) (ms := 0) dX3_edge_10 rfl tX3_mirror q342 q341 rfl (Nat.le_of_ble_eq_true rfl) (Nat.le_of_ble_eq_true rfl) ?_
  refine c_X3_mirror ⟨by omega, by omega⟩ ?_
  refine w_p1 ?_
  refine w_iconst (pc' := 14) dX3_edge_13 rfl (by decide) ?_
  -- at 14: .if_icmp .ne 16
  refine w_icmp_ne (pc' := 17) (tgt := 30) dX3_edge_14 rfl rfl (fun g => ?_) (fun g => ?_)
  · exact no (fun q => g q.1)
  · refine w_iload_n (pc' := 18) dX3_edge_17 rfl rfl ?_
    refine w_iconst (pc' := 19) dX3_edge_18 rfl (by decide) ?_
    refine w_iand (pc' := 20) dX3_edge_19 rfl ?_
    -- at 20: .iconst 1
    rw [e1]
    refine w_iconst (pc' := 21) dX3_edge_20 rfl (by decide) ?_
    -- at 21: .if_icmp .ne 9
    refine w_icmp_ne (pc' := 24) (tgt := 30) dX3_edge_21 rfl rfl (fun g2 => ?_) (fun g2 => ?_)
    · exact no (fun q => g2 q.2)
    · refine w_iconst (pc' := 25) dX3_edge_24 rfl (by decide) ?_
      refine w_iload_n (pc' := 26) dX3_edge_25 rfl rfl ?_
      refine w_isub (pc' := 27) dX3_edge_26 rfl ⟨by first | omega | (simp (decide := true) only [au_1, nu_2, au_lt, nu_lt, aw_e, nw_e, au_s, au_n, nu_s, nu_n, au_au, nu_nu, au_nu]; omega), by first | omega | (simp (decide := true) only [au_1, nu_2, au_lt, nu_lt, aw_e, nw_e, au_s, au_n, nu_s, nu_n, au_au, nu_nu, au_nu]; omega)⟩ ?_
      refine w_goto (tgt := 31) dX3_edge_27 rfl ?_
      -- at 31: .ireturn
      refine w_ireturn dX3_edge_31 rfl ?_
      unfold edg at h
      rw [if_pos ⟨g, g2⟩] at h
      exact h
theorem c_X3_row {m n y x : Int} (hn : 0 ≤ n ∧ n ≤ 100) (hy : 0 ≤ y ∧ y ≤ 100) (hx : 0 ≤ x ∧ x ≤ 100) (h : K (some (xI (cfI m n y x))) G) : tvW mX3_row (d + 1) K 0 [some (xI m), some (xI n), some (xI y), some (xI x)] [] G bc bs := by
  unfold cfI at h
  refine w_iload_n (pc' := 1) dX3_row_0 rfl rfl ?_
  -- at 1: .invokestatic 13
  refine w_callS1 (pc' := 4) (mc := 0) (ms := 0) dX3_row_1 rfl tX3_turns q331 q340 rfl (Nat.le_of_ble_eq_true rfl) (Nat.le_of_ble_eq_true rfl) ?_
  refine c_X3_turns ?_
  refine w_p1 ?_
  by_cases g0 : m % 4 = 0
  · rw [if_pos g0] at h
    refine w_tableIn (tgt := 32) 0 dX3_row_4 g0 (by decide) (by decide) rfl rfl ?_
    refine w_iload_n (pc' := 33) dX3_row_32 rfl rfl ?_
    -- at 33: .ireturn
    refine w_ireturn dX3_row_33 rfl ?_
    exact h
  rw [if_neg g0] at h
  by_cases g1 : m % 4 = 1
  · rw [if_pos g1] at h
    refine w_tableIn (tgt := 34) 1 dX3_row_4 g1 (by decide) (by decide) rfl rfl ?_
    refine w_iload_n (pc' := 35) dX3_row_34 rfl rfl ?_
    refine w_iconst (pc' := 36) dX3_row_35 rfl (by decide) ?_
    refine w_isub (pc' := 37) dX3_row_36 rfl ⟨by first | omega | (simp (decide := true) only [au_1, nu_2, au_lt, nu_lt, aw_e, nw_e, au_s, au_n, nu_s, nu_n, au_au, nu_nu, au_nu]; omega), by first | omega | (simp (decide := true) only [au_1, nu_2, au_lt, nu_lt, aw_e, nw_e, au_s, au_n, nu_s, nu_n, au_au, nu_nu, au_nu]; omega)⟩ ?_
    refine w_iload_n (pc' := 38) dX3_row_37 rfl rfl ?_
    refine w_isub (pc' := 39) dX3_row_38 rfl ⟨by first | omega | (simp (decide := true) only [au_1, nu_2, au_lt, nu_lt, aw_e, nw_e, au_s, au_n, nu_s, nu_n, au_au, nu_nu, au_nu]; omega), by first | omega | (simp (decide := true) only [au_1, nu_2, au_lt, nu_lt, aw_e, nw_e, au_s, au_n, nu_s, nu_n, au_au, nu_nu, au_nu]; omega)⟩ ?_
    -- at 39: .ireturn
    refine w_ireturn dX3_row_39 rfl ?_
    exact h
  rw [if_neg g1] at h
  by_cases g2 : m % 4 = 2
  · rw [if_pos g2] at h
    refine w_tableIn (tgt := 40) 2 dX3_row_4 g2 (by decide) (by decide) rfl rfl ?_
    refine w_iload_n (pc' := 41) dX3_row_40 rfl rfl ?_
    refine w_iconst (pc' := 42) dX3_row_41 rfl (by decide) ?_
    refine w_isub (pc' := 43) dX3_row_42 rfl ⟨by first | omega | (simp (decide := true) only [au_1, nu_2, au_lt, nu_lt, aw_e, nw_e, au_s, au_n, nu_s, nu_n, au_au, nu_nu, au_nu]; omega), by first | omega | (simp (decide := true) only [au_1, nu_2, au_lt, nu_lt, aw_e, nw_e, au_s, au_n, nu_s, nu_n, au_au, nu_nu, au_nu]; omega)⟩ ?_
    refine w_iload_n (pc' := 44) dX3_row_43 rfl rfl ?_
    refine w_isub (pc' := 45) dX3_row_44 rfl ⟨by first | omega | (simp (decide := true) only [au_1, nu_2, au_lt, nu_lt, aw_e, nw_e, au_s, au_n, nu_s, nu_n, au_au, nu_nu, au_nu]; omega), by first | omega | (simp (decide := true) only [au_1, nu_2, au_lt, nu_lt, aw_e, nw_e, au_s, au_n, nu_s, nu_n, au_au, nu_nu, au_nu]; omega)⟩ ?_
    -- at 45: .ireturn
    refine w_ireturn dX3_row_45 rfl ?_
    exact h
  rw [if_neg g2] at h
  refine w_tableOut (tgt := 46) dX3_row_4 rfl (by omega) ?_
  refine w_iload_n (pc' := 47) dX3_row_46 rfl rfl ?_
  -- at 47: .ireturn
  refine w_ireturn dX3_row_47 rfl ?_
  exact h
theorem c_X3_column {m n y x : Int} (hm : 0 ≤ m ∧ m < 8) (hn : 0 ≤ n ∧ n ≤ 100) (hy : 0 ≤ y ∧ y ≤ 100) (hx : 0 ≤ x ∧ x ≤ 100) (h : K (some (xI (cfJ m n y x))) G) : tvW mX3_column (d + 1) K 0 [some (xI m), some (xI n), some (xI y), some (xI x), none] [] G bc bs := by
  have go : -200 ≤ cfJ0 m n y x → cfJ0 m n y x ≤ 200 → tvW mX3_column (d + 1) K 61 [some (xI m), some (xI n), some (xI y), some (xI x), some (xI (cfJ0 m n y x))] [] G bc bs := by
    intro r1 r2
    unfold cfJ at h
    refine w_iload_n (pc' := 62) dX3_column_61 rfl rfl ?_
    -- at 62: .invokestatic 7
    refine w_callS1 (pc' := 65) (mc := 0) (ms := 0) dX3_column_62 rfl tX3_mirror q342 q341 rfl (Nat.le_of_ble_eq_true rfl) (Nat.le_of_ble_eq_true rfl) ?_
    refine c_X3_mirror ⟨by omega, by omega⟩ ?_
    refine w_p1 ?_
    refine w_iconst (pc' := 66) dX3_column_65 rfl (by decide) ?_
    -- at 66: .if_icmp .ne 12
    refine w_icmp_ne (pc' := 69) (tgt := 78) dX3_column_66 rfl rfl (fun g => ?_) (fun g => ?_)
    · refine w_iload (pc' := 80) dX3_column_78 rfl rfl ?_
      -- at 80: .ireturn
      refine w_ireturn dX3_column_80 rfl ?_
      rw [if_pos (by omega)] at h
      exact h
    · refine w_iload_n (pc' := 70) dX3_column_69 rfl rfl ?_
      refine w_iconst (pc' := 71) dX3_column_70 rfl (by decide) ?_
      refine w_isub (pc' := 72) dX3_column_71 rfl ⟨by first | omega | (simp (decide := true) only [au_1, nu_2, au_lt, nu_lt, aw_e, nw_e, au_s, au_n, nu_s, nu_n, au_au, nu_nu, au_nu]; omega), by first | omega | (simp (decide := true) only [au_1, nu_2, au_lt, nu_lt, aw_e, nw_e, au_s, au_n, nu_s, nu_n, au_au, nu_nu, au_nu]; omega)⟩ ?_
      refine w_iload (pc' := 74) dX3_column_72 rfl rfl ?_
      refine w_isub (pc' := 75) dX3_column_74 rfl ⟨by first | omega | (simp (decide := true) only [au_1, nu_2, au_lt, nu_lt, aw_e, nw_e, au_s, au_n, nu_s, nu_n, au_au, nu_nu, au_nu]; omega), by first | omega | (simp (decide := true) only [au_1, nu_2, au_lt, nu_lt, aw_e, nw_e, au_s, au_n, nu_s, nu_n, au_au, nu_nu, au_nu]; omega)⟩ ?_
      refine w_goto (tgt := 80) dX3_column_75 rfl ?_
      -- at 80: .ireturn
      refine w_ireturn dX3_column_80 rfl ?_
      rw [if_neg (by omega)] at h
      exact h
  unfold cfJ0 at go
  refine w_iload_n (pc' := 1) dX3_column_0 rfl rfl ?_
  -- at 1: .invokestatic 13
  refine w_callS1 (pc' := 4) (mc := 0) (ms := 0) dX3_column_1 rfl tX3_turns q331 q340 rfl (Nat.le_of_ble_eq_true rfl) (Nat.le_of_ble_eq_true rfl) ?_
  refine c_X3_turns ?_
  refine w_p1 ?_
  by_cases g0 : m % 4 = 0
  · simp only [if_pos g0] at go
    refine w_tableIn (tgt := 32) 0 dX3_column_4 g0 (by decide) (by decide) rfl rfl ?_
    refine w_iload_n (pc' := 33) dX3_column_32 rfl rfl ?_
    refine w_ist4 (pc' := 35) dX3_column_33 rfl rfl ?_
    refine w_goto (tgt := 61) dX3_column_35 rfl ?_
    -- at 61: .iload_n 0
    exact go (by omega) (by omega)
  simp only [if_neg g0] at go
  by_cases g1 : m % 4 = 1
  · simp only [if_pos g1] at go
    refine w_tableIn (tgt := 38) 1 dX3_column_4 g1 (by decide) (by decide) rfl rfl ?_
    refine w_iload_n (pc' := 39) dX3_column_38 rfl rfl ?_
    refine w_ist4 (pc' := 41) dX3_column_39 rfl rfl ?_
    refine w_goto (tgt := 61) dX3_column_41 rfl ?_
    -- at 61: .iload_n 0
    exact go (by omega) (by omega)
  simp only [if_neg g1] at go
  by_cases g2 : m % 4 = 2
  · simp only [if_pos g2] at go
    refine w_tableIn (tgt := 44) 2 dX3_column_4 g2 (by decide) (by decide) rfl rfl ?_
    refine w_iload_n (pc' := 45) dX3_column_44 rfl rfl ?_
    refine w_iconst (pc' := 46) dX3_column_45 rfl (by decide) ?_
    refine w_isub (pc' := 47) dX3_column_46 rfl ⟨by first | omega | (simp (decide := true) only [au_1, nu_2, au_lt, nu_lt, aw_e, nw_e, au_s, au_n, nu_s, nu_n, au_au, nu_nu, au_nu]; omega), by first | omega | (simp (decide := true) only [au_1, nu_2, au_lt, nu_lt, aw_e, nw_e, au_s, au_n, nu_s, nu_n, au_au, nu_nu, au_nu]; omega)⟩ ?_
    refine w_iload_n (pc' := 48) dX3_column_47 rfl rfl ?_
    refine w_isub (pc' := 49) dX3_column_48 rfl ⟨by first | omega | (simp (decide := true) only [au_1, nu_2, au_lt, nu_lt, aw_e, nw_e, au_s, au_n, nu_s, nu_n, au_au, nu_nu, au_nu]; omega), by first | omega | (simp (decide := true) only [au_1, nu_2, au_lt, nu_lt, aw_e, nw_e, au_s, au_n, nu_s, nu_n, au_au, nu_nu, au_nu]; omega)⟩ ?_
    refine w_ist4 (pc' := 51) dX3_column_49 rfl rfl ?_
    refine w_goto (tgt := 61) dX3_column_51 rfl ?_
    -- at 61: .iload_n 0
    exact go (by omega) (by omega)
  simp only [if_neg g2] at go
  refine w_tableOut (tgt := 54) dX3_column_4 rfl (by omega) ?_
  refine w_iload_n (pc' := 55) dX3_column_54 rfl rfl ?_
  refine w_iconst (pc' := 56) dX3_column_55 rfl (by decide) ?_
  refine w_isub (pc' := 57) dX3_column_56 rfl ⟨by first | omega | (simp (decide := true) only [au_1, nu_2, au_lt, nu_lt, aw_e, nw_e, au_s, au_n, nu_s, nu_n, au_au, nu_nu, au_nu]; omega), by first | omega | (simp (decide := true) only [au_1, nu_2, au_lt, nu_lt, aw_e, nw_e, au_s, au_n, nu_s, nu_n, au_au, nu_nu, au_nu]; omega)⟩ ?_
  refine w_iload_n (pc' := 58) dX3_column_57 rfl rfl ?_
  refine w_isub (pc' := 59) dX3_column_58 rfl ⟨by first | omega | (simp (decide := true) only [au_1, nu_2, au_lt, nu_lt, aw_e, nw_e, au_s, au_n, nu_s, nu_n, au_au, nu_nu, au_nu]; omega), by first | omega | (simp (decide := true) only [au_1, nu_2, au_lt, nu_lt, aw_e, nw_e, au_s, au_n, nu_s, nu_n, au_au, nu_nu, au_nu]; omega)⟩ ?_
  refine w_ist4 (pc' := 61) dX3_column_59 rfl rfl ?_
  -- at 61: .iload_n 0
  exact go (by omega) (by omega)
/-- a kind: the object r, its colours' array c -/
def tle (G : GH) (r c : Rl) (E t cst mir nm : Int) : Prop := G r = some (xob 2 [xR c, xI t, xI cst, xI mir, xL nm]) ∧ ∃ g, G c = some (xar 0 4 g) ∧ ∀ e, 0 ≤ e → e < 4 → g e = E / ((2 ^ (4 * e).toNat : Nat) : Int) % 16
theorem c_X2_lies {r c : Rl} {E t cst mir nm m : Int} (hT : tle G r c E t cst mir nm) (ht : t = 1 ∨ t = 2 ∨ t = 4) (hm : 0 ≤ m ∧ m < 8) (h : K (some (xI (lie mir t m))) G) : tvW mX2_lies (d + 1) K 0 [some (xR r), some (xI m)] [] G bc bs := by
  obtain ⟨hT, -⟩ := hT
  have e := lie_c (mir := mir) ht hm.1 hm.2
  refine w_aload_n (pc' := 1) dX2_lies_0 rfl rfl ?_
  refine w_get 3 (pc' := 4) dX2_lies_1 rfl fX2_17_2 hT rfl ?_
  -- at 4: .ifCond .eq 9
  refine w_if_eq (pc' := 7) (tgt := 13) dX2_lies_4 rfl rfl (fun g => ?_) (fun g => ?_)
  · refine w_iconst (pc' := 14) dX2_lies_13 rfl (by decide) ?_
    refine w_iload_n (pc' := 15) dX2_lies_14 rfl rfl ?_
    -- at 15: .invokestatic 28
    refine w_callS1 (pc' := 18) (mc := 0) (ms := 0) dX2_lies_15 rfl tX3_turns q331 q330 rfl (Nat.le_of_ble_eq_true rfl) (Nat.le_of_ble_eq_true rfl) ?_
    refine c_X3_turns ?_
    refine w_p1 ?_
    refine w_aload_n (pc' := 19) dX2_lies_18 rfl rfl ?_
    refine w_get 1 (pc' := 22) dX2_lies_19 rfl fX2_13_2 hT rfl ?_
    refine w_irem (pc' := 23) dX2_lies_22 rfl (by first | omega | (simp (decide := true) only [au_1, nu_2, au_lt, nu_lt, aw_e, nw_e, au_s, au_n, nu_s, nu_n, au_au, nu_nu, au_nu]; omega)) (by first | omega | (simp (decide := true) only [au_1, nu_2, au_lt, nu_lt, aw_e, nw_e, au_s, au_n, nu_s, nu_n, au_au, nu_nu, au_nu]; omega)) ?_
    refine w_ior (pc' := 24) dX2_lies_23 rfl ?_
    -- at 24: .ireturn
    refine w_ireturn dX2_lies_24 rfl ?_
    rw [if_pos g] at e
    rw [e]
    exact h
  · refine w_iload_n (pc' := 8) dX2_lies_7 rfl rfl ?_
    refine w_iconst (pc' := 9) dX2_lies_8 rfl (by decide) ?_
    refine w_iand (pc' := 10) dX2_lies_9 rfl ?_
    refine w_goto (tgt := 14) dX2_lies_10 rfl ?_
    refine w_iload_n (pc' := 15) dX2_lies_14 rfl rfl ?_
    -- at 15: .invokestatic 28
    refine w_callS1 (pc' := 18) (mc := 0) (ms := 0) dX2_lies_15 rfl tX3_turns q331 q330 rfl (Nat.le_of_ble_eq_true rfl) (Nat.le_of_ble_eq_true rfl) ?_
    refine c_X3_turns ?_
    refine w_p1 ?_
    refine w_aload_n (pc' := 19) dX2_lies_18 rfl rfl ?_
    refine w_get 1 (pc' := 22) dX2_lies_19 rfl fX2_13_2 hT rfl ?_
    refine w_irem (pc' := 23) dX2_lies_22 rfl (by first | omega | (simp (decide := true) only [au_1, nu_2, au_lt, nu_lt, aw_e, nw_e, au_s, au_n, nu_s, nu_n, au_au, nu_nu, au_nu]; omega)) (by first | omega | (simp (decide := true) only [au_1, nu_2, au_lt, nu_lt, aw_e, nw_e, au_s, au_n, nu_s, nu_n, au_au, nu_nu, au_nu]; omega)) ?_
    refine w_ior (pc' := 24) dX2_lies_23 rfl ?_
    -- at 24: .ireturn
    refine w_ireturn dX2_lies_24 rfl ?_
    rw [if_neg g] at e
    rw [e]
    exact h
theorem c_X2_colour {r c : Rl} {E t cst mir nm m e : Int} (hT : tle G r c E t cst mir nm) (hm : 0 ≤ m ∧ m < 8) (he : 0 ≤ e ∧ e < 4) (h : K (some (xI (col E m e))) G) : tvW mX2_colour (d + 2) K 0 [some (xR r), some (xI m), some (xI e)] [] G bc bs := by
  obtain ⟨hT, g, hc, hg⟩ := hT
  have hr := edg_r m e
  refine w_aload_n (pc' := 1) dX2_colour_0 rfl rfl ?_
  refine w_get 0 (pc' := 4) dX2_colour_1 rfl fX2_7_2 hT rfl ?_
  refine w_iload_n (pc' := 5) dX2_colour_4 rfl rfl ?_
  refine w_iload_n (pc' := 6) dX2_colour_5 rfl rfl ?_
  -- at 6: .invokestatic 33
  refine w_callS2 (pc' := 9) (mc := 0) (ms := 0) dX2_colour_6 rfl tX3_edge q338 q337 rfl (Nat.le_of_ble_eq_true rfl) (Nat.le_of_ble_eq_true rfl) ?_
  refine c_X3_edge hm he ?_
  refine w_p1 ?_
  refine w_iald (pc' := 10) dX2_colour_9 rfl hc (by omega) (by omega) ?_
  -- at 10: .ireturn
  refine w_ireturn dX2_colour_10 rfl ?_
  rw [hg _ hr.1 hr.2]
  exact h
end
