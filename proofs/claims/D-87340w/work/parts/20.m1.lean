set_option maxRecDepth 10000
section
variable {d : Nat} {K : Option XV → GH → Prop} {G0 G : GH} {bc bs : Nat} {σ : MS}
theorem c_X1_isMove {m : Int} (h1 : 0 ≤ m → m < 8 → K (some (xI 1)) G) (h0 : ¬ (0 ≤ m ∧ m < 8) → K (some (xI 0)) G) : tvW mX1_isMove d K 0 [some (xI m)] [] G bc bs := by
  refine w_iload_n (pc' := 1) dX1_isMove_0 rfl rfl ?_
  -- at 1: .ifCond .lt 13
  try simp (decide := true) only [au_1, nu_2, au_lt, nu_lt, aw_e, nw_e, au_s, au_n, nu_s, nu_n, au_au, nu_nu, au_nu]
  refine w_if_lt (pc' := 4) (tgt := 14) dX1_isMove_1 rfl rfl (fun h => ?_) (fun h => ?_)
  · refine w_iconst (pc' := 15) dX1_isMove_14 rfl (by decide) ?_
    -- at 15: .ireturn
    try simp (decide := true) only [au_1, nu_2, au_lt, nu_lt, aw_e, nw_e, au_s, au_n, nu_s, nu_n, au_au, nu_nu, au_nu]
    refine w_zreturn dX1_isMove_15 rfl (by first | exact Or.inl rfl | exact Or.inr rfl | omega) ?_
    exact h0 (by omega)
  · refine w_iload_n (pc' := 5) dX1_isMove_4 rfl rfl ?_
    refine w_bipush (pc' := 7) dX1_isMove_5 rfl (by decide +kernel) (by decide) ?_
    -- at 7: .if_icmp .ge 7
    try simp (decide := true) only [au_1, nu_2, au_lt, nu_lt, aw_e, nw_e, au_s, au_n, nu_s, nu_n, au_au, nu_nu, au_nu]
    refine w_icmp_ge (pc' := 10) (tgt := 14) dX1_isMove_7 rfl rfl (fun g => ?_) (fun g => ?_)
    · refine w_iconst (pc' := 15) dX1_isMove_14 rfl (by decide) ?_
      -- at 15: .ireturn
      try simp (decide := true) only [au_1, nu_2, au_lt, nu_lt, aw_e, nw_e, au_s, au_n, nu_s, nu_n, au_au, nu_nu, au_nu]
      refine w_zreturn dX1_isMove_15 rfl (by first | exact Or.inl rfl | exact Or.inr rfl | omega) ?_
      exact h0 (by omega)
    · refine w_iconst (pc' := 11) dX1_isMove_10 rfl (by decide) ?_
      refine w_goto (tgt := 15) dX1_isMove_11 rfl ?_
      -- at 15: .ireturn
      try simp (decide := true) only [au_1, nu_2, au_lt, nu_lt, aw_e, nw_e, au_s, au_n, nu_s, nu_n, au_au, nu_nu, au_nu]
      refine w_zreturn dX1_isMove_15 rfl (by first | exact Or.inl rfl | exact Or.inr rfl | omega) ?_
      exact h1 (by omega) (by omega)
theorem c_X1_isKind {k : Int} (h1 : 0 ≤ k → k < σ.1 5 → K (some (xI 1)) (ov σ G0)) (h0 : ¬ (0 ≤ k ∧ k < σ.1 5) → K (some (xI 0)) (ov σ G0)) : tvW mX1_isKind d K 0 [some (xR mR), some (xI k)] [] (ov σ G0) bc bs := by
  refine w_iload_n (pc' := 1) dX1_isKind_0 rfl rfl ?_
  -- at 1: .ifCond .lt 15
  try simp (decide := true) only [au_1, nu_2, au_lt, nu_lt, aw_e, nw_e, au_s, au_n, nu_s, nu_n, au_au, nu_nu, au_nu]
  refine w_if_lt (pc' := 4) (tgt := 16) dX1_isKind_1 rfl rfl (fun h => ?_) (fun h => ?_)
  · refine w_iconst (pc' := 17) dX1_isKind_16 rfl (by decide) ?_
    -- at 17: .ireturn
    try simp (decide := true) only [au_1, nu_2, au_lt, nu_lt, aw_e, nw_e, au_s, au_n, nu_s, nu_n, au_au, nu_nu, au_nu]
    refine w_zreturn dX1_isKind_17 rfl (by first | exact Or.inl rfl | exact Or.inr rfl | omega) ?_
    exact h0 (by omega)
  · refine w_iload_n (pc' := 5) dX1_isKind_4 rfl rfl ?_
    refine w_aload_n (pc' := 6) dX1_isKind_5 rfl rfl ?_
    refine w_mgi 5 (pc' := 9) dX1_isKind_6 rfl fX1_128_1 rfl ?_
    -- at 9: .if_icmp .ge 7
    try simp (decide := true) only [au_1, nu_2, au_lt, nu_lt, aw_e, nw_e, au_s, au_n, nu_s, nu_n, au_au, nu_nu, au_nu]
    refine w_icmp_ge (pc' := 12) (tgt := 16) dX1_isKind_9 rfl rfl (fun g => ?_) (fun g => ?_)
    · refine w_iconst (pc' := 17) dX1_isKind_16 rfl (by decide) ?_
      -- at 17: .ireturn
      try simp (decide := true) only [au_1, nu_2, au_lt, nu_lt, aw_e, nw_e, au_s, au_n, nu_s, nu_n, au_au, nu_nu, au_nu]
      refine w_zreturn dX1_isKind_17 rfl (by first | exact Or.inl rfl | exact Or.inr rfl | omega) ?_
      exact h0 (by omega)
    · refine w_iconst (pc' := 13) dX1_isKind_12 rfl (by decide) ?_
      refine w_goto (tgt := 17) dX1_isKind_13 rfl ?_
      -- at 17: .ireturn
      try simp (decide := true) only [au_1, nu_2, au_lt, nu_lt, aw_e, nw_e, au_s, au_n, nu_s, nu_n, au_au, nu_nu, au_nu]
      refine w_zreturn dX1_isKind_17 rfl (by first | exact Or.inl rfl | exact Or.inr rfl | omega) ?_
      exact h1 (by omega) (by omega)
theorem c_X1_lies {k m : Int} (hk : 0 ≤ k ∧ k < 40) (hm : 0 ≤ m ∧ m < 8) (ht : σ.2 1 k = 1 ∨ σ.2 1 k = 2 ∨ σ.2 1 k = 4) (h : K (some (xI (lie (σ.2 3 k) (σ.2 1 k) m))) (ov σ G0)) : tvW mX1_lies d K 0 [some (xR mR), some (xI k), some (xI m)] [] (ov σ G0) bc bs := by
  have e4 := bAnd_4 hm.1 hm.2
  have e3 := bAnd_3 m
  refine w_aload_n (pc' := 1) dX1_lies_0 rfl rfl ?_
  refine w_mga 3 (pc' := 4) dX1_lies_1 rfl fX1_19_1 rfl ?_
  refine w_iload_n (pc' := 5) dX1_lies_4 rfl rfl ?_
  refine w_mzld (pc' := 6) dX1_lies_5 rfl rfl (by first | omega | (simp (decide := true) only [au_1, nu_2, au_lt, nu_lt, aw_e, nw_e, au_s, au_n, nu_s, nu_n, au_au, nu_nu, au_nu]; omega)) (by first | omega | (simp (decide := true) only [au_1, nu_2, au_lt, nu_lt, aw_e, nw_e, au_s, au_n, nu_s, nu_n, au_au, nu_nu, au_nu]; omega)) ?_
  -- at 6: .ifCond .eq 9
  try simp (decide := true) only [au_1, nu_2, au_lt, nu_lt, aw_e, nw_e, au_s, au_n, nu_s, nu_n, au_au, nu_nu, au_nu]
  refine w_if_eq (pc' := 9) (tgt := 15) dX1_lies_6 rfl rfl (fun g => ?_) (fun g => ?_)
  · refine w_iconst (pc' := 16) dX1_lies_15 rfl (by decide) ?_
    refine w_iload_n (pc' := 17) dX1_lies_16 rfl rfl ?_
    refine w_iconst (pc' := 18) dX1_lies_17 rfl (by decide) ?_
    refine w_iand (pc' := 19) dX1_lies_18 rfl ?_
    refine w_aload_n (pc' := 20) dX1_lies_19 rfl rfl ?_
    refine w_mga 1 (pc' := 23) dX1_lies_20 rfl fX1_13_1 rfl ?_
    refine w_iload_n (pc' := 24) dX1_lies_23 rfl rfl ?_
    refine w_mild (pc' := 25) dX1_lies_24 rfl rfl (by first | omega | (simp (decide := true) only [au_1, nu_2, au_lt, nu_lt, aw_e, nw_e, au_s, au_n, nu_s, nu_n, au_au, nu_nu, au_nu]; omega)) (by first | omega | (simp (decide := true) only [au_1, nu_2, au_lt, nu_lt, aw_e, nw_e, au_s, au_n, nu_s, nu_n, au_au, nu_nu, au_nu]; omega)) ?_
    refine w_irem (pc' := 26) dX1_lies_25 rfl (by omega) (by omega) ?_
    refine w_iadd (pc' := 27) dX1_lies_26 rfl ⟨by rw [e3]; rcases ht with ht | ht | ht <;> rw [ht] <;> omega, by rw [e3]; rcases ht with ht | ht | ht <;> rw [ht] <;> omega⟩ ?_
    -- at 27: .ireturn
    try simp (decide := true) only [au_1, nu_2, au_lt, nu_lt, aw_e, nw_e, au_s, au_n, nu_s, nu_n, au_au, nu_nu, au_nu]
    refine w_ireturn dX1_lies_27 rfl ?_
    unfold lie at h
    rw [if_pos g] at h
    rw [e3]
    exact h
  · refine w_iload_n (pc' := 10) dX1_lies_9 rfl rfl ?_
    refine w_iconst (pc' := 11) dX1_lies_10 rfl (by decide) ?_
    refine w_iand (pc' := 12) dX1_lies_11 rfl ?_
    refine w_goto (tgt := 16) dX1_lies_12 rfl ?_
    refine w_iload_n (pc' := 17) dX1_lies_16 rfl rfl ?_
    refine w_iconst (pc' := 18) dX1_lies_17 rfl (by decide) ?_
    refine w_iand (pc' := 19) dX1_lies_18 rfl ?_
    refine w_aload_n (pc' := 20) dX1_lies_19 rfl rfl ?_
    refine w_mga 1 (pc' := 23) dX1_lies_20 rfl fX1_13_1 rfl ?_
    refine w_iload_n (pc' := 24) dX1_lies_23 rfl rfl ?_
    refine w_mild (pc' := 25) dX1_lies_24 rfl rfl (by first | omega | (simp (decide := true) only [au_1, nu_2, au_lt, nu_lt, aw_e, nw_e, au_s, au_n, nu_s, nu_n, au_au, nu_nu, au_nu]; omega)) (by first | omega | (simp (decide := true) only [au_1, nu_2, au_lt, nu_lt, aw_e, nw_e, au_s, au_n, nu_s, nu_n, au_au, nu_nu, au_nu]; omega)) ?_
    refine w_irem (pc' := 26) dX1_lies_25 rfl (by omega) (by omega) ?_
    refine w_iadd (pc' := 27) dX1_lies_26 rfl ⟨by rw [e3, e4]; rcases ht with ht | ht | ht <;> rw [ht] <;> omega, by rw [e3, e4]; rcases ht with ht | ht | ht <;> rw [ht] <;> omega⟩ ?_
    -- at 27: .ireturn
    try simp (decide := true) only [au_1, nu_2, au_lt, nu_lt, aw_e, nw_e, au_s, au_n, nu_s, nu_n, au_au, nu_nu, au_nu]
    refine w_ireturn dX1_lies_27 rfl ?_
    unfold lie at h
    rw [if_neg g] at h
    rw [e3, e4]
    exact h
theorem c_X1_thenMove {a b : Int} (ha : 0 ≤ a ∧ a < 8) (hb : 0 ≤ b ∧ b < 8) (h : K (some (xI (thn a b))) G) : tvW mX1_thenMove d K 0 [some (xI a), some (xI b)] [] G bc bs := by
  have e := thn_m ha.1 ha.2 hb.1 hb.2
  refine w_iload_n (pc' := 1) dX1_thenMove_0 rfl rfl ?_
  refine w_iload_n (pc' := 2) dX1_thenMove_1 rfl rfl ?_
  refine w_ixor (pc' := 3) dX1_thenMove_2 rfl ?_
  refine w_iconst (pc' := 4) dX1_thenMove_3 rfl (by decide) ?_
  refine w_iand (pc' := 5) dX1_thenMove_4 rfl ?_
  refine w_iload_n (pc' := 6) dX1_thenMove_5 rfl rfl ?_
  refine w_iload_n (pc' := 7) dX1_thenMove_6 rfl rfl ?_
  refine w_iconst (pc' := 8) dX1_thenMove_7 rfl (by decide) ?_
  refine w_iand (pc' := 9) dX1_thenMove_8 rfl ?_
  -- at 9: .ifCond .ne 7
  try simp (decide := true) only [au_1, nu_2, au_lt, nu_lt, aw_e, nw_e, au_s, au_n, nu_s, nu_n, au_au, nu_nu, au_nu]
  refine w_if_ne (pc' := 12) (tgt := 16) dX1_thenMove_9 rfl rfl (fun g => ?_) (fun g => ?_)
  · refine w_iload_n (pc' := 17) dX1_thenMove_16 rfl rfl ?_
    refine w_ineg (pc' := 18) dX1_thenMove_17 rfl ⟨by first | omega | (simp (decide := true) only [au_1, nu_2, au_lt, nu_lt, aw_e, nw_e, au_s, au_n, nu_s, nu_n, au_au, nu_nu, au_nu]; omega), by first | omega | (simp (decide := true) only [au_1, nu_2, au_lt, nu_lt, aw_e, nw_e, au_s, au_n, nu_s, nu_n, au_au, nu_nu, au_nu]; omega)⟩ ?_
    refine w_iadd (pc' := 19) dX1_thenMove_18 rfl ⟨by first | omega | (simp (decide := true) only [au_1, nu_2, au_lt, nu_lt, aw_e, nw_e, au_s, au_n, nu_s, nu_n, au_au, nu_nu, au_nu]; omega), by first | omega | (simp (decide := true) only [au_1, nu_2, au_lt, nu_lt, aw_e, nw_e, au_s, au_n, nu_s, nu_n, au_au, nu_nu, au_nu]; omega)⟩ ?_
    refine w_iconst (pc' := 20) dX1_thenMove_19 rfl (by decide) ?_
    refine w_iand (pc' := 21) dX1_thenMove_20 rfl ?_
    refine w_ior (pc' := 22) dX1_thenMove_21 rfl ?_
    -- at 22: .ireturn
    try simp (decide := true) only [au_1, nu_2, au_lt, nu_lt, aw_e, nw_e, au_s, au_n, nu_s, nu_n, au_au, nu_nu, au_nu]
    refine w_ireturn dX1_thenMove_22 rfl ?_
    rw [if_neg g] at e
    rw [e]
    exact h
  · refine w_iload_n (pc' := 13) dX1_thenMove_12 rfl rfl ?_
    refine w_goto (tgt := 18) dX1_thenMove_13 rfl ?_
    refine w_iadd (pc' := 19) dX1_thenMove_18 rfl ⟨by first | omega | (simp (decide := true) only [au_1, nu_2, au_lt, nu_lt, aw_e, nw_e, au_s, au_n, nu_s, nu_n, au_au, nu_nu, au_nu]; omega), by first | omega | (simp (decide := true) only [au_1, nu_2, au_lt, nu_lt, aw_e, nw_e, au_s, au_n, nu_s, nu_n, au_au, nu_nu, au_nu]; omega)⟩ ?_
    refine w_iconst (pc' := 20) dX1_thenMove_19 rfl (by decide) ?_
    refine w_iand (pc' := 21) dX1_thenMove_20 rfl ?_
    refine w_ior (pc' := 22) dX1_thenMove_21 rfl ?_
    -- at 22: .ireturn
    try simp (decide := true) only [au_1, nu_2, au_lt, nu_lt, aw_e, nw_e, au_s, au_n, nu_s, nu_n, au_au, nu_nu, au_nu]
    refine w_ireturn dX1_thenMove_22 rfl ?_
    rw [if_pos g] at e
    rw [e]
    exact h
theorem c_X1_then {a b : Int} (h : K (some (xI (if (0 ≤ a ∧ a < 8) ∧ 0 ≤ b ∧ b < 8 then thn a b else -1))) G) (hG : ∃ fs, G mR = some (xob 1 fs)) : tvW mX1_then (d + 1) K 0 [some (xR mR), some (xI a), some (xI b)] [] G bc bs := by
  refine w_iload_n (pc' := 1) dX1_then_0 rfl rfl ?_
  -- at 1: .invokestatic 137
  try simp (decide := true) only [au_1, nu_2, au_lt, nu_lt, aw_e, nw_e, au_s, au_n, nu_s, nu_n, au_au, nu_nu, au_nu]
  refine w_callS1 (pc' := 4) (mc := 0) (ms := 0) dX1_then_1 rfl tX1_isMove q1259 q1258 rfl (Nat.le_of_ble_eq_true rfl) (Nat.le_of_ble_eq_true rfl) ?_
  refine c_X1_isMove (fun a1 a2 => ?_) (fun a1 => ?_)
  · refine w_p1 ?_
    refine w_if_eq (pc' := 7) (tgt := 22) dX1_then_4 rfl rfl (fun h_ => False.elim (by first | omega | (simp (decide := true) only [au_1, nu_2, au_lt, nu_lt, aw_e, nw_e, au_s, au_n, nu_s, nu_n, au_au, nu_nu, au_nu] at h_; omega))) (fun h_ => ?_)
    refine w_iload_n (pc' := 8) dX1_then_7 rfl rfl ?_
    -- at 8: .invokestatic 137
    try simp (decide := true) only [au_1, nu_2, au_lt, nu_lt, aw_e, nw_e, au_s, au_n, nu_s, nu_n, au_au, nu_nu, au_nu]
    refine w_callS1 (pc' := 11) (mc := 0) (ms := 0) dX1_then_8 rfl tX1_isMove q1259 q1258 rfl (Nat.le_of_ble_eq_true rfl) (Nat.le_of_ble_eq_true rfl) ?_
    refine c_X1_isMove (fun b1 b2 => ?_) (fun b1 => ?_)
    · refine w_p1 ?_
      refine w_if_eq (pc' := 14) (tgt := 22) dX1_then_11 rfl rfl (fun h_ => False.elim (by first | omega | (simp (decide := true) only [au_1, nu_2, au_lt, nu_lt, aw_e, nw_e, au_s, au_n, nu_s, nu_n, au_au, nu_nu, au_nu] at h_; omega))) (fun h_ => ?_)
      refine w_iload_n (pc' := 15) dX1_then_14 rfl rfl ?_
      refine w_iload_n (pc' := 16) dX1_then_15 rfl rfl ?_
      -- at 16: .invokestatic 141
      try simp (decide := true) only [au_1, nu_2, au_lt, nu_lt, aw_e, nw_e, au_s, au_n, nu_s, nu_n, au_au, nu_nu, au_nu]
      refine w_callS2 (pc' := 19) (mc := 0) (ms := 0) dX1_then_16 rfl tX1_thenMove q1262 q1261 rfl (Nat.le_of_ble_eq_true rfl) (Nat.le_of_ble_eq_true rfl) ?_
      refine c_X1_thenMove ⟨a1, a2⟩ ⟨b1, b2⟩ ?_
      refine w_p1 ?_
      refine w_goto (tgt := 23) dX1_then_19 rfl ?_
      -- at 23: .ireturn
      try simp (decide := true) only [au_1, nu_2, au_lt, nu_lt, aw_e, nw_e, au_s, au_n, nu_s, nu_n, au_au, nu_nu, au_nu]
      refine w_ireturn dX1_then_23 rfl ?_
      rw [if_pos ⟨⟨a1, a2⟩, b1, b2⟩] at h
      exact h
    · refine w_p1 ?_
      refine w_if_eq (pc' := 14) (tgt := 22) dX1_then_11 rfl rfl (fun h_ => ?_) (fun h_ => False.elim (by first | omega | (simp (decide := true) only [au_1, nu_2, au_lt, nu_lt, aw_e, nw_e, au_s, au_n, nu_s, nu_n, au_au, nu_nu, au_nu] at h_; omega)))
      refine w_iconst (pc' := 23) dX1_then_22 rfl (by decide) ?_
      -- at 23: .ireturn
      try simp (decide := true) only [au_1, nu_2, au_lt, nu_lt, aw_e, nw_e, au_s, au_n, nu_s, nu_n, au_au, nu_nu, au_nu]
      refine w_ireturn dX1_then_23 rfl ?_
      rw [if_neg (fun q => b1 q.2)] at h
      exact h
  · refine w_p1 ?_
    refine w_if_eq (pc' := 7) (tgt := 22) dX1_then_4 rfl rfl (fun h_ => ?_) (fun h_ => False.elim (by first | omega | (simp (decide := true) only [au_1, nu_2, au_lt, nu_lt, aw_e, nw_e, au_s, au_n, nu_s, nu_n, au_au, nu_nu, au_nu] at h_; omega)))
    refine w_iconst (pc' := 23) dX1_then_22 rfl (by decide) ?_
    -- at 23: .ireturn
    try simp (decide := true) only [au_1, nu_2, au_lt, nu_lt, aw_e, nw_e, au_s, au_n, nu_s, nu_n, au_au, nu_nu, au_nu]
    refine w_ireturn dX1_then_23 rfl ?_
    rw [if_neg (fun q => a1 q.1)] at h
    exact h
theorem col_m {a w : Int} (ha : 0 ≤ a ∧ a ≤ 65535) (hw : 0 ≤ w ∧ w < 4) : bAnd (bShr a (4 * w)) 15 = a / ((2 ^ (4 * w).toNat : Nat) : Int) % 16 := by
  have hr : rg a := ⟨by omega, by omega⟩
  rw [bAnd_15]
  have h4 : w = 0 ∨ w = 1 ∨ w = 2 ∨ w = 3 := by omega
  rcases h4 with rfl | rfl | rfl | rfl
  · rw [show (4 * 0 : Int) = 0 from rfl, bShr_0 hr]; simp
  · rw [show (4 * 1 : Int) = 4 from rfl, bShr_4 hr]; rfl
  · rw [show (4 * 2 : Int) = 8 from rfl, bShr_8 hr]; rfl
  · rw [show (4 * 3 : Int) = 12 from rfl, bShr_12 hr]; rfl
theorem c_X1_colour {k m e : Int} (hk : 0 ≤ k ∧ k < 40) (hm : 0 ≤ m ∧ m < 8) (he : 0 ≤ e ∧ e < 4) (hE : 0 ≤ σ.2 0 k ∧ σ.2 0 k ≤ 65535) (h : K (some (xI (col (σ.2 0 k) m e))) (ov σ G0)) : tvW mX1_colour d K 0 [some (xR mR), some (xI k), some (xI m), some (xI e), none] [] (ov σ G0) bc bs := by
  have tail : ∀ w, w = edg m e → tvW mX1_colour d K 27 [some (xR mR), some (xI k), some (xI m), some (xI e), some (xI w)] [] (ov σ G0) bc bs := by
    intro w hw
    have hw2 := edg_r m e
    refine w_aload_n (pc' := 28) dX1_colour_27 rfl rfl ?_
    refine w_mga 0 (pc' := 31) dX1_colour_28 rfl fX1_7_1 rfl ?_
    refine w_iload_n (pc' := 32) dX1_colour_31 rfl rfl ?_
    refine w_mild (pc' := 33) dX1_colour_32 rfl rfl (by first | omega | (simp (decide := true) only [au_1, nu_2, au_lt, nu_lt, aw_e, nw_e, au_s, au_n, nu_s, nu_n, au_au, nu_nu, au_nu]; omega)) (by first | omega | (simp (decide := true) only [au_1, nu_2, au_lt, nu_lt, aw_e, nw_e, au_s, au_n, nu_s, nu_n, au_au, nu_nu, au_nu]; omega)) ?_
    refine w_iconst (pc' := 34) dX1_colour_33 rfl (by decide) ?_
    refine w_iload (pc' := 36) dX1_colour_34 rfl rfl ?_
    refine w_imul (pc' := 37) dX1_colour_36 rfl ⟨by first | omega | (simp (decide := true) only [au_1, nu_2, au_lt, nu_lt, aw_e, nw_e, au_s, au_n, nu_s, nu_n, au_au, nu_nu, au_nu]; omega), by first | omega | (simp (decide := true) only [au_1, nu_2, au_lt, nu_lt, aw_e, nw_e, au_s, au_n, nu_s, nu_n, au_au, nu_nu, au_nu]; omega)⟩ ?_
    refine w_ishr (pc' := 38) dX1_colour_37 rfl ?_
    refine w_bipush (pc' := 40) dX1_colour_38 rfl (by decide +kernel) (by decide) ?_
    refine w_iand (pc' := 41) dX1_colour_40 rfl ?_
    -- at 41: .ireturn
    try simp (decide := true) only [au_1, nu_2, au_lt, nu_lt, aw_e, nw_e, au_s, au_n, nu_s, nu_n, au_au, nu_nu, au_nu]
    refine w_ireturn dX1_colour_41 rfl ?_
    subst hw
    rw [col_m hE hw2]
    exact h
  have e3 := bAnd_3 (e - m)
  have e4 := bAnd_4 hm.1 hm.2
  refine w_iload_n (pc' := 1) dX1_colour_0 rfl rfl ?_
  refine w_iload_n (pc' := 2) dX1_colour_1 rfl rfl ?_
  refine w_isub (pc' := 3) dX1_colour_2 rfl ⟨by first | omega | (simp (decide := true) only [au_1, nu_2, au_lt, nu_lt, aw_e, nw_e, au_s, au_n, nu_s, nu_n, au_au, nu_nu, au_nu]; omega), by first | omega | (simp (decide := true) only [au_1, nu_2, au_lt, nu_lt, aw_e, nw_e, au_s, au_n, nu_s, nu_n, au_au, nu_nu, au_nu]; omega)⟩ ?_
  refine w_iconst (pc' := 4) dX1_colour_3 rfl (by decide) ?_
  refine w_iand (pc' := 5) dX1_colour_4 rfl ?_
  refine w_ist4 (pc' := 7) dX1_colour_5 rfl rfl ?_
  refine w_iload_n (pc' := 8) dX1_colour_7 rfl rfl ?_
  refine w_iconst (pc' := 9) dX1_colour_8 rfl (by decide) ?_
  refine w_iand (pc' := 10) dX1_colour_9 rfl ?_
  -- at 10: .ifCond .eq 17
  try simp (decide := true) only [au_1, nu_2, au_lt, nu_lt, aw_e, nw_e, au_s, au_n, nu_s, nu_n, au_au, nu_nu, au_nu]
  refine w_if_eq (pc' := 13) (tgt := 27) dX1_colour_10 rfl rfl (fun g => ?_) (fun g => ?_)
  · refine tail _ ?_
    rw [e3]; unfold edg; rw [if_neg (by omega)]
  · refine w_iload (pc' := 15) dX1_colour_13 rfl rfl ?_
    refine w_iconst (pc' := 16) dX1_colour_15 rfl (by decide) ?_
    refine w_iand (pc' := 17) dX1_colour_16 rfl ?_
    refine w_iconst (pc' := 18) dX1_colour_17 rfl (by decide) ?_
    -- at 18: .if_icmp .ne 9
    try simp (decide := true) only [au_1, nu_2, au_lt, nu_lt, aw_e, nw_e, au_s, au_n, nu_s, nu_n, au_au, nu_nu, au_nu]
    have e1 := bAnd_1 (bAnd (e - m) 3)
    refine w_icmp_ne (pc' := 21) (tgt := 27) dX1_colour_18 rfl rfl (fun g2 => ?_) (fun g2 => ?_)
    · refine tail _ ?_
      rw [e3]; unfold edg; rw [if_neg (by omega)]
    · refine w_iconst (pc' := 22) dX1_colour_21 rfl (by decide) ?_
      refine w_iload (pc' := 24) dX1_colour_22 rfl rfl ?_
      refine w_isub (pc' := 25) dX1_colour_24 rfl ⟨by omega, by omega⟩ ?_
      refine w_ist4 (pc' := 27) dX1_colour_25 rfl rfl ?_
      -- at 27: .aload_n 0
      try simp (decide := true) only [au_1, nu_2, au_lt, nu_lt, aw_e, nw_e, au_s, au_n, nu_s, nu_n, au_au, nu_nu, au_nu]
      refine tail _ ?_
      rw [e3]; unfold edg; rw [if_pos (by omega)]
theorem c_X1_edge {k m e : Int} (hK : 0 ≤ σ.1 5 ∧ σ.1 5 ≤ 40) (hE : ∀ k, 0 ≤ k → k < σ.1 5 → 0 ≤ σ.2 0 k ∧ σ.2 0 k ≤ 65535) (ht : ∀ k, 0 ≤ k → k < σ.1 5 → σ.2 1 k = 1 ∨ σ.2 1 k = 2 ∨ σ.2 1 k = 4) (h : K (some (xI (if (0 ≤ k ∧ k < σ.1 5) ∧ (0 ≤ m ∧ m < 8) ∧ 0 ≤ e ∧ e ≤ 4 then (if e = 4 then lie (σ.2 3 k) (σ.2 1 k) m else col (σ.2 0 k) (lie (σ.2 3 k) (σ.2 1 k) m) e) else -1))) (ov σ G0)) : tvW mX1_edge (d + 1) K 0 [some (xR mR), some (xI k), some (xI m), some (xI e), none] [] (ov σ G0) bc bs := by
  have bad : ¬ ((0 ≤ k ∧ k < σ.1 5) ∧ (0 ≤ m ∧ m < 8) ∧ 0 ≤ e ∧ e ≤ 4) → tvW mX1_edge (d + 1) K 24 [some (xR mR), some (xI k), some (xI m), some (xI e), none] [] (ov σ G0) bc bs := by
    intro q
    rw [if_neg q] at h
    refine w_iconst (pc' := 25) dX1_edge_24 rfl (by decide) ?_
    -- at 25: .ireturn
    try simp (decide := true) only [au_1, nu_2, au_lt, nu_lt, aw_e, nw_e, au_s, au_n, nu_s, nu_n, au_au, nu_nu, au_nu]
    refine w_ireturn dX1_edge_25 rfl ?_
    exact h
  refine w_aload_n (pc' := 1) dX1_edge_0 rfl rfl ?_
  refine w_iload_n (pc' := 2) dX1_edge_1 rfl rfl ?_
  -- at 2: .invokevirtual 145
  try simp (decide := true) only [au_1, nu_2, au_lt, nu_lt, aw_e, nw_e, au_s, au_n, nu_s, nu_n, au_au, nu_nu, au_nu]
  refine w_callV1 (pc' := 5) (mc := 0) (ms := 0) dX1_edge_2 rfl tX1_isKind q1270 rfl rfl qs39 q1268 ov_o rfl (Nat.le_of_ble_eq_true rfl) (Nat.le_of_ble_eq_true rfl) ?_
  refine c_X1_isKind (fun k1 k2 => w_p1 ?_) (fun k1 => w_p1 ?_)
  · refine w_if_eq (pc' := 8) (tgt := 24) dX1_edge_5 rfl rfl (fun h_ => False.elim (by first | omega | (simp (decide := true) only [au_1, nu_2, au_lt, nu_lt, aw_e, nw_e, au_s, au_n, nu_s, nu_n, au_au, nu_nu, au_nu] at h_; omega))) (fun h_ => ?_)
    refine w_iload_n (pc' := 9) dX1_edge_8 rfl rfl ?_
    -- at 9: .invokestatic 137
    try simp (decide := true) only [au_1, nu_2, au_lt, nu_lt, aw_e, nw_e, au_s, au_n, nu_s, nu_n, au_au, nu_nu, au_nu]
    refine w_callS1 (pc' := 12) (mc := 0) (ms := 0) dX1_edge_9 rfl tX1_isMove q1259 q1258 rfl (Nat.le_of_ble_eq_true rfl) (Nat.le_of_ble_eq_true rfl) ?_
    refine c_X1_isMove (fun m1 m2 => w_p1 ?_) (fun m1 => w_p1 ?_)
    · refine w_if_eq (pc' := 15) (tgt := 24) dX1_edge_12 rfl rfl (fun h_ => False.elim (by first | omega | (simp (decide := true) only [au_1, nu_2, au_lt, nu_lt, aw_e, nw_e, au_s, au_n, nu_s, nu_n, au_au, nu_nu, au_nu] at h_; omega))) (fun h_ => ?_)
      refine w_iload_n (pc' := 16) dX1_edge_15 rfl rfl ?_
      -- at 16: .ifCond .lt 8
      try simp (decide := true) only [au_1, nu_2, au_lt, nu_lt, aw_e, nw_e, au_s, au_n, nu_s, nu_n, au_au, nu_nu, au_nu]
      refine w_if_lt (pc' := 19) (tgt := 24) dX1_edge_16 rfl rfl (fun g => ?_) (fun g => ?_)
      · exact bad (by omega)
      · refine w_iload_n (pc' := 20) dX1_edge_19 rfl rfl ?_
        refine w_iconst (pc' := 21) dX1_edge_20 rfl (by decide) ?_
        -- at 21: .if_icmp .le 5
        try simp (decide := true) only [au_1, nu_2, au_lt, nu_lt, aw_e, nw_e, au_s, au_n, nu_s, nu_n, au_au, nu_nu, au_nu]
        refine w_icmp_le (pc' := 24) (tgt := 26) dX1_edge_21 rfl rfl (fun g2 => ?_) (fun g2 => ?_)
        · rw [if_pos ⟨⟨k1, k2⟩, ⟨m1, m2⟩, g, g2⟩] at h
          refine w_aload_n (pc' := 27) dX1_edge_26 rfl rfl ?_
          refine w_iload_n (pc' := 28) dX1_edge_27 rfl rfl ?_
          refine w_iload_n (pc' := 29) dX1_edge_28 rfl rfl ?_
          -- at 29: .invokevirtual 148
          try simp (decide := true) only [au_1, nu_2, au_lt, nu_lt, aw_e, nw_e, au_s, au_n, nu_s, nu_n, au_au, nu_nu, au_nu]
          have hl := lie_r (mir := σ.2 3 k) (ht k k1 k2) m1 m2
          refine w_callV2 (pc' := 32) (mc := 0) (ms := 0) dX1_edge_29 rfl tX1_lies q1274 rfl rfl qs40 q1272 ov_o rfl (Nat.le_of_ble_eq_true rfl) (Nat.le_of_ble_eq_true rfl) ?_
          refine c_X1_lies ⟨k1, by omega⟩ ⟨m1, m2⟩ (ht k k1 k2) ?_
          refine w_p1 ?_
          refine w_ist4 (pc' := 34) dX1_edge_32 rfl rfl ?_
          refine w_iload_n (pc' := 35) dX1_edge_34 rfl rfl ?_
          refine w_iconst (pc' := 36) dX1_edge_35 rfl (by decide) ?_
          -- at 36: .if_icmp .ne 8
          try simp (decide := true) only [au_1, nu_2, au_lt, nu_lt, aw_e, nw_e, au_s, au_n, nu_s, nu_n, au_au, nu_nu, au_nu]
          refine w_icmp_ne (pc' := 39) (tgt := 44) dX1_edge_36 rfl rfl (fun g3 => ?_) (fun g3 => ?_)
          · rw [if_neg g3] at h
            refine w_aload_n (pc' := 45) dX1_edge_44 rfl rfl ?_
            refine w_iload_n (pc' := 46) dX1_edge_45 rfl rfl ?_
            refine w_iload (pc' := 48) dX1_edge_46 rfl rfl ?_
            refine w_iload_n (pc' := 49) dX1_edge_48 rfl rfl ?_
            -- at 49: .invokevirtual 151
            try simp (decide := true) only [au_1, nu_2, au_lt, nu_lt, aw_e, nw_e, au_s, au_n, nu_s, nu_n, au_au, nu_nu, au_nu]
            refine w_callV3 (pc' := 52) (mc := 0) (ms := 0) dX1_edge_49 rfl tX1_colour q1278 rfl rfl qs41 q1276 ov_o rfl (Nat.le_of_ble_eq_true rfl) (Nat.le_of_ble_eq_true rfl) ?_
            refine c_X1_colour ⟨k1, by omega⟩ hl ⟨g, by omega⟩ (hE k k1 k2) ?_
            refine w_p1 ?_
            refine w_ireturn dX1_edge_52 rfl ?_
            exact h
          · rw [if_pos g3] at h
            refine w_iload (pc' := 41) dX1_edge_39 rfl rfl ?_
            refine w_goto (tgt := 52) dX1_edge_41 rfl ?_
            -- at 52: .ireturn
            try simp (decide := true) only [au_1, nu_2, au_lt, nu_lt, aw_e, nw_e, au_s, au_n, nu_s, nu_n, au_au, nu_nu, au_nu]
            refine w_ireturn dX1_edge_52 rfl ?_
            exact h
        · exact bad (by omega)
    · refine w_if_eq (pc' := 15) (tgt := 24) dX1_edge_12 rfl rfl (fun h_ => ?_) (fun h_ => False.elim (by first | omega | (simp (decide := true) only [au_1, nu_2, au_lt, nu_lt, aw_e, nw_e, au_s, au_n, nu_s, nu_n, au_au, nu_nu, au_nu] at h_; omega)))
      exact bad (fun q => m1 q.2.1)
  · refine w_if_eq (pc' := 8) (tgt := 24) dX1_edge_5 rfl rfl (fun h_ => ?_) (fun h_ => False.elim (by first | omega | (simp (decide := true) only [au_1, nu_2, au_lt, nu_lt, aw_e, nw_e, au_s, au_n, nu_s, nu_n, au_au, nu_nu, au_nu] at h_; omega)))
    exact bad (fun q => k1 q.1)
end
