set_option maxRecDepth 10000
section
variable {d : Nat} {K : Option XV → GH → Prop} {G0 G : GH} {bc bs : Nat} {σ : MS}
theorem c_X1_cell {k m s : Int} (hk : 0 ≤ k ∧ k < 40) (hm : 0 ≤ m ∧ m < 8) (hs : -32768 ≤ s ∧ s ≤ 32767) (h : K (some (xI (cel k m s))) G) : tvW mX1_cell d K 0 [some (xI k), some (xI m), some (xI s)] [] G bc bs := by
  refine w_iload_n (pc' := 1) dX1_cell_0 rfl rfl ?_
  refine w_bipush (pc' := 3) dX1_cell_1 rfl (by decide +kernel) (by decide) ?_
  refine w_ishl (pc' := 4) dX1_cell_3 rfl ?_
  refine w_bipush (pc' := 6) dX1_cell_4 rfl (by decide +kernel) (by decide) ?_
  refine w_iload_n (pc' := 7) dX1_cell_6 rfl rfl ?_
  refine w_imul (pc' := 8) dX1_cell_7 rfl ⟨by first | omega | (simp (decide := true) only [au_1, nu_2, au_lt, nu_lt, aw_e, nw_e, au_s, au_n, nu_s, nu_n, au_au, nu_nu, au_nu]; omega), by first | omega | (simp (decide := true) only [au_1, nu_2, au_lt, nu_lt, aw_e, nw_e, au_s, au_n, nu_s, nu_n, au_au, nu_nu, au_nu]; omega)⟩ ?_
  refine w_iload_n (pc' := 9) dX1_cell_8 rfl rfl ?_
  refine w_iadd (pc' := 10) dX1_cell_9 rfl ⟨by first | omega | (simp (decide := true) only [au_1, nu_2, au_lt, nu_lt, aw_e, nw_e, au_s, au_n, nu_s, nu_n, au_au, nu_nu, au_nu]; omega), by first | omega | (simp (decide := true) only [au_1, nu_2, au_lt, nu_lt, aw_e, nw_e, au_s, au_n, nu_s, nu_n, au_au, nu_nu, au_nu]; omega)⟩ ?_
  refine w_iconst (pc' := 11) dX1_cell_10 rfl (by decide) ?_
  refine w_iadd (pc' := 12) dX1_cell_11 rfl ⟨by first | omega | (simp (decide := true) only [au_1, nu_2, au_lt, nu_lt, aw_e, nw_e, au_s, au_n, nu_s, nu_n, au_au, nu_nu, au_nu]; omega), by first | omega | (simp (decide := true) only [au_1, nu_2, au_lt, nu_lt, aw_e, nw_e, au_s, au_n, nu_s, nu_n, au_au, nu_nu, au_nu]; omega)⟩ ?_
  refine w_ior (pc' := 13) dX1_cell_12 rfl ?_
  -- at 13: .ireturn
  try simp (decide := true) only [au_1, nu_2, au_lt, nu_lt, aw_e, nw_e, au_s, au_n, nu_s, nu_n, au_au, nu_nu, au_nu]
  refine w_ireturn dX1_cell_13 rfl ?_
  rw [bShl_16 hs, bOr_add hs ⟨by omega, by omega⟩]
  exact h
theorem c_X1_kindOf {c : Int} (h : K (some (xI (kOf c))) G) : tvW mX1_kindOf d K 0 [some (xI c)] [] G bc bs := by
  have e := bAnd_65535 c
  refine w_iload_n (pc' := 1) dX1_kindOf_0 rfl rfl ?_
  refine w_ldc (z := 65535) (pc' := 3) dX1_kindOf_1 rfl q1354 (by decide +kernel) (by decide) ?_
  refine w_iand (pc' := 4) dX1_kindOf_3 rfl ?_
  refine w_iconst (pc' := 5) dX1_kindOf_4 rfl (by decide) ?_
  refine w_isub (pc' := 6) dX1_kindOf_5 rfl ⟨by first | omega | (simp (decide := true) only [au_1, nu_2, au_lt, nu_lt, aw_e, nw_e, au_s, au_n, nu_s, nu_n, au_au, nu_nu, au_nu]; omega), by first | omega | (simp (decide := true) only [au_1, nu_2, au_lt, nu_lt, aw_e, nw_e, au_s, au_n, nu_s, nu_n, au_au, nu_nu, au_nu]; omega)⟩ ?_
  refine w_iconst (pc' := 7) dX1_kindOf_6 rfl (by decide) ?_
  refine w_ishr (pc' := 8) dX1_kindOf_7 rfl ?_
  -- at 8: .ireturn
  try simp (decide := true) only [au_1, nu_2, au_lt, nu_lt, aw_e, nw_e, au_s, au_n, nu_s, nu_n, au_au, nu_nu, au_nu]
  refine w_ireturn dX1_kindOf_8 rfl ?_
  rw [bShr_3 ⟨by omega, by omega⟩, e]
  exact h
theorem c_X1_moveOf {c : Int} (h : K (some (xI (mOf c))) G) : tvW mX1_moveOf d K 0 [some (xI c)] [] G bc bs := by
  have e := bAnd_65535 c
  refine w_iload_n (pc' := 1) dX1_moveOf_0 rfl rfl ?_
  refine w_ldc (z := 65535) (pc' := 3) dX1_moveOf_1 rfl q1354 (by decide +kernel) (by decide) ?_
  refine w_iand (pc' := 4) dX1_moveOf_3 rfl ?_
  refine w_iconst (pc' := 5) dX1_moveOf_4 rfl (by decide) ?_
  refine w_isub (pc' := 6) dX1_moveOf_5 rfl ⟨by first | omega | (simp (decide := true) only [au_1, nu_2, au_lt, nu_lt, aw_e, nw_e, au_s, au_n, nu_s, nu_n, au_au, nu_nu, au_nu]; omega), by first | omega | (simp (decide := true) only [au_1, nu_2, au_lt, nu_lt, aw_e, nw_e, au_s, au_n, nu_s, nu_n, au_au, nu_nu, au_nu]; omega)⟩ ?_
  refine w_bipush (pc' := 8) dX1_moveOf_6 rfl (by decide +kernel) (by decide) ?_
  refine w_iand (pc' := 9) dX1_moveOf_8 rfl ?_
  -- at 9: .ireturn
  try simp (decide := true) only [au_1, nu_2, au_lt, nu_lt, aw_e, nw_e, au_s, au_n, nu_s, nu_n, au_au, nu_nu, au_nu]
  refine w_ireturn dX1_moveOf_9 rfl ?_
  rw [bAnd_7, e]
  exact h
theorem c_X1_shadeOf {c : Int} (hc : rg c) (h : K (some (xI (sOf c))) G) : tvW mX1_shadeOf d K 0 [some (xI c)] [] G bc bs := by
  refine w_iload_n (pc' := 1) dX1_shadeOf_0 rfl rfl ?_
  refine w_bipush (pc' := 3) dX1_shadeOf_1 rfl (by decide +kernel) (by decide) ?_
  refine w_ishr (pc' := 4) dX1_shadeOf_3 rfl ?_
  -- at 4: .ireturn
  try simp (decide := true) only [au_1, nu_2, au_lt, nu_lt, aw_e, nw_e, au_s, au_n, nu_s, nu_n, au_au, nu_nu, au_nu]
  refine w_ireturn dX1_shadeOf_4 rfl ?_
  rw [bShr_16 hc]
  exact h
theorem isC_k {K c : Int} (h : isC K c) (h0 : c ≠ 0) : 0 ≤ kOf c ∧ kOf c < K := by
  rcases h with h | h
  · exact absurd h h0
  · unfold kOf; omega
theorem mOf_r {c : Int} : 0 ≤ mOf c ∧ mOf c < 8 := by unfold mOf; omega
theorem sOf_r {c : Int} (h : rg c) : -32768 ≤ sOf c ∧ sOf c ≤ 32767 := by obtain ⟨h1, h2⟩ := h; unfold sOf; omega
theorem c_X1_moved {c m : Int} (hk : kok σ) (hc : isC (σ.1 5) c) (hr : rg c) (hm : 0 ≤ m ∧ m < 8) (h : K (some (xI (mvd σ c m))) (ov σ G0)) : tvW mX1_moved (d + 1) K 0 [some (xR mR), some (xI c), some (xI m)] [] (ov σ G0) bc bs := by
  obtain ⟨⟨k1, k2⟩, hk⟩ := hk
  refine w_iload_n (pc' := 1) dX1_moved_0 rfl rfl ?_
  -- at 1: .ifCond .ne 7
  try simp (decide := true) only [au_1, nu_2, au_lt, nu_lt, aw_e, nw_e, au_s, au_n, nu_s, nu_n, au_au, nu_nu, au_nu]
  refine w_if_ne (pc' := 4) (tgt := 8) dX1_moved_1 rfl rfl (fun g => ?_) (fun g => ?_)
  · have hkc := isC_k hc g
    have hmo := mOf_r (c := c)
    have hth := thn_r hmo.1 hmo.2 hm.1 hm.2
    obtain ⟨-, ht, -, -⟩ := hk _ hkc.1 hkc.2
    have hli := lie_r (mir := σ.2 3 (kOf c)) ht hth.1 hth.2
    refine w_iload_n (pc' := 9) dX1_moved_8 rfl rfl ?_
    -- at 9: .invokestatic 156
    try simp (decide := true) only [au_1, nu_2, au_lt, nu_lt, aw_e, nw_e, au_s, au_n, nu_s, nu_n, au_au, nu_nu, au_nu]
    refine w_callS1 (pc' := 12) (mc := 0) (ms := 0) dX1_moved_9 rfl tX1_kindOf q1352 q1351 rfl (Nat.le_of_ble_eq_true rfl) (Nat.le_of_ble_eq_true rfl) ?_
    refine c_X1_kindOf ?_
    refine w_p1 ?_
    refine w_aload_n (pc' := 13) dX1_moved_12 rfl rfl ?_
    refine w_iload_n (pc' := 14) dX1_moved_13 rfl rfl ?_
    -- at 14: .invokestatic 156
    try simp (decide := true) only [au_1, nu_2, au_lt, nu_lt, aw_e, nw_e, au_s, au_n, nu_s, nu_n, au_au, nu_nu, au_nu]
    refine w_callS1 (pc' := 17) (mc := 0) (ms := 0) dX1_moved_14 rfl tX1_kindOf q1352 q1351 rfl (Nat.le_of_ble_eq_true rfl) (Nat.le_of_ble_eq_true rfl) ?_
    refine c_X1_kindOf ?_
    refine w_p1 ?_
    refine w_iload_n (pc' := 18) dX1_moved_17 rfl rfl ?_
    -- at 18: .invokestatic 160
    try simp (decide := true) only [au_1, nu_2, au_lt, nu_lt, aw_e, nw_e, au_s, au_n, nu_s, nu_n, au_au, nu_nu, au_nu]
    refine w_callS1 (pc' := 21) (mc := 0) (ms := 0) dX1_moved_18 rfl tX1_moveOf q1356 q1355 rfl (Nat.le_of_ble_eq_true rfl) (Nat.le_of_ble_eq_true rfl) ?_
    refine c_X1_moveOf ?_
    refine w_p1 ?_
    refine w_iload_n (pc' := 22) dX1_moved_21 rfl rfl ?_
    -- at 22: .invokestatic 141
    try simp (decide := true) only [au_1, nu_2, au_lt, nu_lt, aw_e, nw_e, au_s, au_n, nu_s, nu_n, au_au, nu_nu, au_nu]
    refine w_callS2 (pc' := 25) (mc := 0) (ms := 0) dX1_moved_22 rfl tX1_thenMove q1262 q1261 rfl (Nat.le_of_ble_eq_true rfl) (Nat.le_of_ble_eq_true rfl) ?_
    refine c_X1_thenMove hmo hm ?_
    refine w_p1 ?_
    refine w_callV2 (pc' := 28) (mc := 0) (ms := 0) dX1_moved_25 rfl tX1_lies q1274 rfl rfl qs40 q1272 ov_o rfl (Nat.le_of_ble_eq_true rfl) (Nat.le_of_ble_eq_true rfl) ?_
    refine c_X1_lies ⟨hkc.1, by omega⟩ hth ht ?_
    refine w_p1 ?_
    refine w_iload_n (pc' := 29) dX1_moved_28 rfl rfl ?_
    -- at 29: .invokestatic 163
    try simp (decide := true) only [au_1, nu_2, au_lt, nu_lt, aw_e, nw_e, au_s, au_n, nu_s, nu_n, au_au, nu_nu, au_nu]
    refine w_callS1 (pc' := 32) (mc := 0) (ms := 0) dX1_moved_29 rfl tX1_shadeOf q1363 q1362 rfl (Nat.le_of_ble_eq_true rfl) (Nat.le_of_ble_eq_true rfl) ?_
    refine c_X1_shadeOf hr ?_
    refine w_p1 ?_
    refine w_callS3 (pc' := 35) (mc := 0) (ms := 0) dX1_moved_32 rfl tX1_cell q1329 q1328 rfl (Nat.le_of_ble_eq_true rfl) (Nat.le_of_ble_eq_true rfl) ?_
    refine c_X1_cell ⟨hkc.1, by omega⟩ hli (sOf_r hr) ?_
    refine w_p1 ?_
    refine w_ireturn dX1_moved_35 rfl ?_
    unfold mvd at h
    rw [if_neg g] at h
    exact h
  · refine w_iconst (pc' := 5) dX1_moved_4 rfl (by decide) ?_
    refine w_goto (tgt := 35) dX1_moved_5 rfl ?_
    -- at 35: .ireturn
    try simp (decide := true) only [au_1, nu_2, au_lt, nu_lt, aw_e, nw_e, au_s, au_n, nu_s, nu_n, au_au, nu_nu, au_nu]
    refine w_ireturn dX1_moved_35 rfl ?_
    unfold mvd at h
    rw [if_pos g] at h
    exact h
theorem c_X1_fit {c c2 e : Int} (hk : kok σ) (hc : isC (σ.1 5) c) (hc2 : isC (σ.1 5) c2) (he : 0 ≤ e ∧ e < 4) (h1 : ftt σ c c2 e → K (some (xI 1)) (ov σ G0)) (h0 : ¬ ftt σ c c2 e → K (some (xI 0)) (ov σ G0)) : tvW mX1_fit (d + 1) K 0 [some (xR mR), some (xI c), some (xI c2), some (xI e)] [] (ov σ G0) bc bs := by
  obtain ⟨⟨k1, k2⟩, hk⟩ := hk
  have yes : ftt σ c c2 e → tvW mX1_fit (d + 1) K 41 [some (xR mR), some (xI c), some (xI c2), some (xI e)] [] (ov σ G0) bc bs := by
    intro q
    refine w_iconst (pc' := 42) dX1_fit_41 rfl (by decide) ?_
    refine w_goto (tgt := 46) dX1_fit_42 rfl ?_
    -- at 46: .ireturn
    try simp (decide := true) only [au_1, nu_2, au_lt, nu_lt, aw_e, nw_e, au_s, au_n, nu_s, nu_n, au_au, nu_nu, au_nu]
    refine w_zreturn dX1_fit_46 rfl (by first | exact Or.inl rfl | exact Or.inr rfl | omega) ?_
    exact h1 q
  refine w_iload_n (pc' := 1) dX1_fit_0 rfl rfl ?_
  -- at 1: .ifCond .eq 40
  try simp (decide := true) only [au_1, nu_2, au_lt, nu_lt, aw_e, nw_e, au_s, au_n, nu_s, nu_n, au_au, nu_nu, au_nu]
  refine w_if_eq (pc' := 4) (tgt := 41) dX1_fit_1 rfl rfl (fun g => ?_) (fun g => ?_)
  · exact yes (Or.inl g)
  · refine w_iload_n (pc' := 5) dX1_fit_4 rfl rfl ?_
    -- at 5: .ifCond .eq 36
    try simp (decide := true) only [au_1, nu_2, au_lt, nu_lt, aw_e, nw_e, au_s, au_n, nu_s, nu_n, au_au, nu_nu, au_nu]
    refine w_if_eq (pc' := 8) (tgt := 41) dX1_fit_5 rfl rfl (fun g2 => ?_) (fun g2 => ?_)
    · exact yes (Or.inr (Or.inl g2))
    · have hkc := isC_k hc g
      have hkc2 := isC_k hc2 g2
      have e3 := bAnd_3 (e + 2)
      refine w_aload_n (pc' := 9) dX1_fit_8 rfl rfl ?_
      refine w_iload_n (pc' := 10) dX1_fit_9 rfl rfl ?_
      -- at 10: .invokestatic 156
      try simp (decide := true) only [au_1, nu_2, au_lt, nu_lt, aw_e, nw_e, au_s, au_n, nu_s, nu_n, au_au, nu_nu, au_nu]
      refine w_callS1 (pc' := 13) (mc := 0) (ms := 0) dX1_fit_10 rfl tX1_kindOf q1352 q1351 rfl (Nat.le_of_ble_eq_true rfl) (Nat.le_of_ble_eq_true rfl) ?_
      refine c_X1_kindOf ?_
      refine w_p1 ?_
      refine w_iload_n (pc' := 14) dX1_fit_13 rfl rfl ?_
      -- at 14: .invokestatic 160
      try simp (decide := true) only [au_1, nu_2, au_lt, nu_lt, aw_e, nw_e, au_s, au_n, nu_s, nu_n, au_au, nu_nu, au_nu]
      refine w_callS1 (pc' := 17) (mc := 0) (ms := 0) dX1_fit_14 rfl tX1_moveOf q1356 q1355 rfl (Nat.le_of_ble_eq_true rfl) (Nat.le_of_ble_eq_true rfl) ?_
      refine c_X1_moveOf ?_
      refine w_p1 ?_
      refine w_iload_n (pc' := 18) dX1_fit_17 rfl rfl ?_
      -- at 18: .invokevirtual 151
      try simp (decide := true) only [au_1, nu_2, au_lt, nu_lt, aw_e, nw_e, au_s, au_n, nu_s, nu_n, au_au, nu_nu, au_nu]
      refine w_callV3 (pc' := 21) (mc := 0) (ms := 0) dX1_fit_18 rfl tX1_colour q1278 rfl rfl qs41 q1276 ov_o rfl (Nat.le_of_ble_eq_true rfl) (Nat.le_of_ble_eq_true rfl) ?_
      refine c_X1_colour ⟨hkc.1, by omega⟩ mOf_r he (hk _ hkc.1 hkc.2).1 ?_
      refine w_p1 ?_
      refine w_aload_n (pc' := 22) dX1_fit_21 rfl rfl ?_
      refine w_iload_n (pc' := 23) dX1_fit_22 rfl rfl ?_
      -- at 23: .invokestatic 156
      try simp (decide := true) only [au_1, nu_2, au_lt, nu_lt, aw_e, nw_e, au_s, au_n, nu_s, nu_n, au_au, nu_nu, au_nu]
      refine w_callS1 (pc' := 26) (mc := 0) (ms := 0) dX1_fit_23 rfl tX1_kindOf q1352 q1351 rfl (Nat.le_of_ble_eq_true rfl) (Nat.le_of_ble_eq_true rfl) ?_
      refine c_X1_kindOf ?_
      refine w_p1 ?_
      refine w_iload_n (pc' := 27) dX1_fit_26 rfl rfl ?_
      -- at 27: .invokestatic 160
      try simp (decide := true) only [au_1, nu_2, au_lt, nu_lt, aw_e, nw_e, au_s, au_n, nu_s, nu_n, au_au, nu_nu, au_nu]
      refine w_callS1 (pc' := 30) (mc := 0) (ms := 0) dX1_fit_27 rfl tX1_moveOf q1356 q1355 rfl (Nat.le_of_ble_eq_true rfl) (Nat.le_of_ble_eq_true rfl) ?_
      refine c_X1_moveOf ?_
      refine w_p1 ?_
      refine w_iload_n (pc' := 31) dX1_fit_30 rfl rfl ?_
      refine w_iconst (pc' := 32) dX1_fit_31 rfl (by decide) ?_
      refine w_iadd (pc' := 33) dX1_fit_32 rfl ⟨by first | omega | (simp (decide := true) only [au_1, nu_2, au_lt, nu_lt, aw_e, nw_e, au_s, au_n, nu_s, nu_n, au_au, nu_nu, au_nu]; omega), by first | omega | (simp (decide := true) only [au_1, nu_2, au_lt, nu_lt, aw_e, nw_e, au_s, au_n, nu_s, nu_n, au_au, nu_nu, au_nu]; omega)⟩ ?_
      refine w_iconst (pc' := 34) dX1_fit_33 rfl (by decide) ?_
      refine w_iand (pc' := 35) dX1_fit_34 rfl ?_
      -- at 35: .invokevirtual 151
      try simp (decide := true) only [au_1, nu_2, au_lt, nu_lt, aw_e, nw_e, au_s, au_n, nu_s, nu_n, au_au, nu_nu, au_nu]
      rw [e3]
      refine w_callV3 (pc' := 38) (mc := 0) (ms := 0) dX1_fit_35 rfl tX1_colour q1278 rfl rfl qs41 q1276 ov_o rfl (Nat.le_of_ble_eq_true rfl) (Nat.le_of_ble_eq_true rfl) ?_
      refine c_X1_colour ⟨hkc2.1, by omega⟩ mOf_r ⟨by omega, by omega⟩ (hk _ hkc2.1 hkc2.2).1 ?_
      refine w_p1 ?_
      refine w_icmp_ne (pc' := 41) (tgt := 45) dX1_fit_38 rfl rfl (fun g3 => ?_) (fun g3 => ?_)
      · refine w_iconst (pc' := 46) dX1_fit_45 rfl (by decide) ?_
        -- at 46: .ireturn
        try simp (decide := true) only [au_1, nu_2, au_lt, nu_lt, aw_e, nw_e, au_s, au_n, nu_s, nu_n, au_au, nu_nu, au_nu]
        refine w_zreturn dX1_fit_46 rfl (by first | exact Or.inl rfl | exact Or.inr rfl | omega) ?_
        refine h0 ?_
        rintro (q | q | q)
        · exact g q
        · exact g2 q
        · exact g3 q
      · exact yes (Or.inr (Or.inr g3))
theorem c_X1_isPattern {k : Int} (h1 : 0 ≤ k → k < σ.1 12 → K (some (xI 1)) (ov σ G0)) (h0 : ¬ (0 ≤ k ∧ k < σ.1 12) → K (some (xI 0)) (ov σ G0)) : tvW mX1_isPattern d K 0 [some (xR mR), some (xI k)] [] (ov σ G0) bc bs := by
  refine w_iload_n (pc' := 1) dX1_isPattern_0 rfl rfl ?_
  -- at 1: .ifCond .lt 15
  try simp (decide := true) only [au_1, nu_2, au_lt, nu_lt, aw_e, nw_e, au_s, au_n, nu_s, nu_n, au_au, nu_nu, au_nu]
  refine w_if_lt (pc' := 4) (tgt := 16) dX1_isPattern_1 rfl rfl (fun h => ?_) (fun h => ?_)
  · refine w_iconst (pc' := 17) dX1_isPattern_16 rfl (by decide) ?_
    -- at 17: .ireturn
    try simp (decide := true) only [au_1, nu_2, au_lt, nu_lt, aw_e, nw_e, au_s, au_n, nu_s, nu_n, au_au, nu_nu, au_nu]
    refine w_zreturn dX1_isPattern_17 rfl (by first | exact Or.inl rfl | exact Or.inr rfl | omega) ?_
    exact h0 (by omega)
  · refine w_iload_n (pc' := 5) dX1_isPattern_4 rfl rfl ?_
    refine w_aload_n (pc' := 6) dX1_isPattern_5 rfl rfl ?_
    refine w_mgi 12 (pc' := 9) dX1_isPattern_6 rfl fX1_169_1 rfl ?_
    -- at 9: .if_icmp .ge 7
    try simp (decide := true) only [au_1, nu_2, au_lt, nu_lt, aw_e, nw_e, au_s, au_n, nu_s, nu_n, au_au, nu_nu, au_nu]
    refine w_icmp_ge (pc' := 12) (tgt := 16) dX1_isPattern_9 rfl rfl (fun g => ?_) (fun g => ?_)
    · refine w_iconst (pc' := 17) dX1_isPattern_16 rfl (by decide) ?_
      -- at 17: .ireturn
      try simp (decide := true) only [au_1, nu_2, au_lt, nu_lt, aw_e, nw_e, au_s, au_n, nu_s, nu_n, au_au, nu_nu, au_nu]
      refine w_zreturn dX1_isPattern_17 rfl (by first | exact Or.inl rfl | exact Or.inr rfl | omega) ?_
      exact h0 (by omega)
    · refine w_iconst (pc' := 13) dX1_isPattern_12 rfl (by decide) ?_
      refine w_goto (tgt := 17) dX1_isPattern_13 rfl ?_
      -- at 17: .ireturn
      try simp (decide := true) only [au_1, nu_2, au_lt, nu_lt, aw_e, nw_e, au_s, au_n, nu_s, nu_n, au_au, nu_nu, au_nu]
      refine w_zreturn dX1_isPattern_17 rfl (by first | exact Or.inl rfl | exact Or.inr rfl | omega) ?_
      exact h1 (by omega) (by omega)
theorem c_X1_rowOf {p i : Int} (hp : 0 ≤ p ∧ p < 16) (hi : 0 ≤ i ∧ i < 60) (h : K (some (xI (rw_ σ p i))) (ov σ G0)) : tvW mX1_rowOf d K 0 [some (xR mR), some (xI p), some (xI i)] [] (ov σ G0) bc bs := by
  refine w_aload_n (pc' := 1) dX1_rowOf_0 rfl rfl ?_
  refine w_mga 10 (pc' := 4) dX1_rowOf_1 rfl fX1_37_1 rfl ?_
  refine w_bipush (pc' := 6) dX1_rowOf_4 rfl (by decide +kernel) (by decide) ?_
  refine w_iload_n (pc' := 7) dX1_rowOf_6 rfl rfl ?_
  refine w_imul (pc' := 8) dX1_rowOf_7 rfl ⟨by first | omega | (simp (decide := true) only [au_1, nu_2, au_lt, nu_lt, aw_e, nw_e, au_s, au_n, nu_s, nu_n, au_au, nu_nu, au_nu]; omega), by first | omega | (simp (decide := true) only [au_1, nu_2, au_lt, nu_lt, aw_e, nw_e, au_s, au_n, nu_s, nu_n, au_au, nu_nu, au_nu]; omega)⟩ ?_
  refine w_iload_n (pc' := 9) dX1_rowOf_8 rfl rfl ?_
  refine w_iadd (pc' := 10) dX1_rowOf_9 rfl ⟨by first | omega | (simp (decide := true) only [au_1, nu_2, au_lt, nu_lt, aw_e, nw_e, au_s, au_n, nu_s, nu_n, au_au, nu_nu, au_nu]; omega), by first | omega | (simp (decide := true) only [au_1, nu_2, au_lt, nu_lt, aw_e, nw_e, au_s, au_n, nu_s, nu_n, au_au, nu_nu, au_nu]; omega)⟩ ?_
  refine w_mild (pc' := 11) dX1_rowOf_10 rfl rfl (by first | omega | (simp (decide := true) only [au_1, nu_2, au_lt, nu_lt, aw_e, nw_e, au_s, au_n, nu_s, nu_n, au_au, nu_nu, au_nu]; omega)) (by first | omega | (simp (decide := true) only [au_1, nu_2, au_lt, nu_lt, aw_e, nw_e, au_s, au_n, nu_s, nu_n, au_au, nu_nu, au_nu]; omega)) ?_
  -- at 11: .ireturn
  try simp (decide := true) only [au_1, nu_2, au_lt, nu_lt, aw_e, nw_e, au_s, au_n, nu_s, nu_n, au_au, nu_nu, au_nu]
  refine w_ireturn dX1_rowOf_11 rfl ?_
  exact h
theorem lI_of {z : Int} (h : rg z) : lI z = z := by
  unfold lI
  rw [← Int32.ofInt_int64ToInt, e_toIntL ⟨by omega, by omega⟩, e_toInt h]
theorem lCmp_lt {a b : Int} : lCmp a b < 0 ↔ a < b := by unfold lCmp; split <;> (try split) <;> omega
theorem lCmp_ge {a b : Int} : 0 ≤ lCmp a b ↔ b ≤ a := by unfold lCmp; split <;> (try split) <;> omega
theorem lCmp_gt {a b : Int} : 0 < lCmp a b ↔ b < a := by unfold lCmp; split <;> (try split) <;> omega
theorem lCmp_le {a b : Int} : lCmp a b ≤ 0 ↔ a ≤ b := by unfold lCmp; split <;> (try split) <;> omega
theorem lCmp_eq {a b : Int} : lCmp a b = 0 ↔ a = b := by unfold lCmp; split <;> (try split) <;> omega
theorem lAdd_of {a b : Int} (h : rgL (a + b)) : lAdd a b = a + b := by
  unfold lAdd
  rw [← Int64.ofInt_add, e_toIntL h]
theorem c_X1_has {p i j : Int} (hr : rok σ) (hpk : pok σ) (hp : 0 ≤ p ∧ p < σ.1 12) (hj : rgL j) (h1 : hs_ σ p i j → K (some (xI 1)) (ov σ G0)) (h0 : ¬ hs_ σ p i j → K (some (xI 0)) (ov σ G0)) : tvW mX1_has (d + 1) K 0 [some (xR mR), some (xI p), some (xL i), none, some (xL j), none, none] [] (ov σ G0) bc bs := by
  obtain ⟨⟨p1, p2⟩, hpk⟩ := hpk
  obtain ⟨⟨m1, m2⟩, hpr⟩ := hpk p hp.1 hp.2
  have no : ¬ hs_ σ p i j → tvW mX1_has (d + 1) K 18 [some (xR mR), some (xI p), some (xL i), none, some (xL j), none, none] [] (ov σ G0) bc bs := by
    intro q
    refine w_iconst (pc' := 19) dX1_has_18 rfl (by decide) ?_
    -- at 19: .ireturn
    try simp (decide := true) only [au_1, nu_2, au_lt, nu_lt, aw_e, nw_e, au_s, au_n, nu_s, nu_n, au_au, nu_nu, au_nu]
    refine w_zreturn dX1_has_19 rfl (by first | exact Or.inl rfl | exact Or.inr rfl | omega) ?_
    exact h0 q
  refine w_lload_n (pc' := 1) dX1_has_0 rfl rfl ?_
  refine w_lconst (z := 0) (pc' := 2) dX1_has_1 rfl rfl (by decide) ?_
  refine w_lcmp (pc' := 3) dX1_has_2 rfl ?_
  -- at 3: .ifCond .lt 15
  try simp (decide := true) only [au_1, nu_2, au_lt, nu_lt, aw_e, nw_e, au_s, au_n, nu_s, nu_n, au_au, nu_nu, au_nu]
  refine w_if_lt (pc' := 6) (tgt := 18) dX1_has_3 rfl rfl (fun g => ?_) (fun g => ?_)
  · exact no (fun q => by have := q.1; have := lCmp_lt.mp g; omega)
  · have g := lCmp_ge.mp g
    refine w_lload_n (pc' := 7) dX1_has_6 rfl rfl ?_
    refine w_aload_n (pc' := 8) dX1_has_7 rfl rfl ?_
    refine w_mga 11 (pc' := 11) dX1_has_8 rfl fX1_40_1 rfl ?_
    refine w_iload_n (pc' := 12) dX1_has_11 rfl rfl ?_
    refine w_mild (pc' := 13) dX1_has_12 rfl rfl (by first | omega | (simp (decide := true) only [au_1, nu_2, au_lt, nu_lt, aw_e, nw_e, au_s, au_n, nu_s, nu_n, au_au, nu_nu, au_nu]; omega)) (by first | omega | (simp (decide := true) only [au_1, nu_2, au_lt, nu_lt, aw_e, nw_e, au_s, au_n, nu_s, nu_n, au_au, nu_nu, au_nu]; omega)) ?_
    refine w_i2l (pc' := 14) dX1_has_13 rfl ?_
    refine w_lcmp (pc' := 15) dX1_has_14 rfl ?_
    -- at 15: .ifCond .lt 5
    try simp (decide := true) only [au_1, nu_2, au_lt, nu_lt, aw_e, nw_e, au_s, au_n, nu_s, nu_n, au_au, nu_nu, au_nu]
    refine w_if_lt (pc' := 18) (tgt := 20) dX1_has_15 rfl rfl (fun g2 => ?_) (fun g2 => ?_)
    · have g2 := lCmp_lt.mp g2
      refine w_aload_n (pc' := 21) dX1_has_20 rfl rfl ?_
      refine w_iload_n (pc' := 22) dX1_has_21 rfl rfl ?_
      refine w_lload_n (pc' := 23) dX1_has_22 rfl rfl ?_
      refine w_l2i (pc' := 24) dX1_has_23 rfl ?_
      -- at 24: .invokevirtual 175
      try simp (decide := true) only [au_1, nu_2, au_lt, nu_lt, aw_e, nw_e, au_s, au_n, nu_s, nu_n, au_au, nu_nu, au_nu]
      have hlI := lI_of (z := i) ⟨by omega, by omega⟩
      rw [hlI]
      refine w_callV2 (pc' := 27) (mc := 0) (ms := 0) dX1_has_24 rfl tX1_rowOf q1302 rfl rfl qs44 q1300 ov_o rfl (Nat.le_of_ble_eq_true rfl) (Nat.le_of_ble_eq_true rfl) ?_
      refine c_X1_rowOf ⟨hp.1, by omega⟩ ⟨g, by omega⟩ ?_
      refine w_p1 ?_
      obtain ⟨r1, r2⟩ := hpr i g g2
      obtain ⟨⟨l1, l2⟩, ⟨o1, o2⟩, -⟩ := hr.2 _ r1 r2
      have hm := hr.1.2
      have hla := lAdd_of (a := σ.2 7 (rw_ σ p i)) (b := σ.2 6 (rw_ σ p i)) ⟨by omega, by omega⟩
      refine w_ist6 (pc' := 29) dX1_has_27 rfl rfl ?_
      refine w_lload (pc' := 31) dX1_has_29 rfl rfl ?_
      refine w_aload_n (pc' := 32) dX1_has_31 rfl rfl ?_
      refine w_mga 7 (pc' := 35) dX1_has_32 rfl fX1_30_1 rfl ?_
      refine w_iload (pc' := 37) dX1_has_35 rfl rfl ?_
      refine w_mild (pc' := 38) dX1_has_37 rfl rfl (by first | omega | (simp (decide := true) only [au_1, nu_2, au_lt, nu_lt, aw_e, nw_e, au_s, au_n, nu_s, nu_n, au_au, nu_nu, au_nu]; omega)) (by first | omega | (simp (decide := true) only [au_1, nu_2, au_lt, nu_lt, aw_e, nw_e, au_s, au_n, nu_s, nu_n, au_au, nu_nu, au_nu]; omega)) ?_
      refine w_i2l (pc' := 39) dX1_has_38 rfl ?_
      refine w_lcmp (pc' := 40) dX1_has_39 rfl ?_
      -- at 40: .ifCond .lt 30
      try simp (decide := true) only [au_1, nu_2, au_lt, nu_lt, aw_e, nw_e, au_s, au_n, nu_s, nu_n, au_au, nu_nu, au_nu]
      refine w_if_lt (pc' := 43) (tgt := 70) dX1_has_40 rfl rfl (fun g3 => ?_) (fun g3 => ?_)
      · refine w_iconst (pc' := 71) dX1_has_70 rfl (by decide) ?_
        -- at 71: .ireturn
        try simp (decide := true) only [au_1, nu_2, au_lt, nu_lt, aw_e, nw_e, au_s, au_n, nu_s, nu_n, au_au, nu_nu, au_nu]
        refine w_zreturn dX1_has_71 rfl (by first | exact Or.inl rfl | exact Or.inr rfl | omega) ?_
        have g3 := lCmp_lt.mp g3
        exact h0 (fun q => by have := q.2.2.1; omega)
      · have g3 := lCmp_ge.mp g3
        refine w_lload (pc' := 45) dX1_has_43 rfl rfl ?_
        refine w_aload_n (pc' := 46) dX1_has_45 rfl rfl ?_
        refine w_mga 7 (pc' := 49) dX1_has_46 rfl fX1_30_1 rfl ?_
        refine w_iload (pc' := 51) dX1_has_49 rfl rfl ?_
        refine w_mild (pc' := 52) dX1_has_51 rfl rfl (by first | omega | (simp (decide := true) only [au_1, nu_2, au_lt, nu_lt, aw_e, nw_e, au_s, au_n, nu_s, nu_n, au_au, nu_nu, au_nu]; omega)) (by first | omega | (simp (decide := true) only [au_1, nu_2, au_lt, nu_lt, aw_e, nw_e, au_s, au_n, nu_s, nu_n, au_au, nu_nu, au_nu]; omega)) ?_
        refine w_i2l (pc' := 53) dX1_has_52 rfl ?_
        refine w_aload_n (pc' := 54) dX1_has_53 rfl rfl ?_
        refine w_mga 6 (pc' := 57) dX1_has_54 rfl fX1_27_1 rfl ?_
        refine w_iload (pc' := 59) dX1_has_57 rfl rfl ?_
        refine w_mild (pc' := 60) dX1_has_59 rfl rfl (by first | omega | (simp (decide := true) only [au_1, nu_2, au_lt, nu_lt, aw_e, nw_e, au_s, au_n, nu_s, nu_n, au_au, nu_nu, au_nu]; omega)) (by first | omega | (simp (decide := true) only [au_1, nu_2, au_lt, nu_lt, aw_e, nw_e, au_s, au_n, nu_s, nu_n, au_au, nu_nu, au_nu]; omega)) ?_
        refine w_i2l (pc' := 61) dX1_has_60 rfl ?_
        refine w_ladd (pc' := 62) dX1_has_61 rfl ?_
        refine w_lcmp (pc' := 63) dX1_has_62 rfl ?_
        -- at 63: .ifCond .ge 7
        try simp (decide := true) only [au_1, nu_2, au_lt, nu_lt, aw_e, nw_e, au_s, au_n, nu_s, nu_n, au_au, nu_nu, au_nu]
        rw [hla]
        refine w_if_ge (pc' := 66) (tgt := 70) dX1_has_63 rfl rfl (fun g4 => ?_) (fun g4 => ?_)
        · refine w_iconst (pc' := 71) dX1_has_70 rfl (by decide) ?_
          -- at 71: .ireturn
          try simp (decide := true) only [au_1, nu_2, au_lt, nu_lt, aw_e, nw_e, au_s, au_n, nu_s, nu_n, au_au, nu_nu, au_nu]
          refine w_zreturn dX1_has_71 rfl (by first | exact Or.inl rfl | exact Or.inr rfl | omega) ?_
          have g4 := lCmp_ge.mp g4
          exact h0 (fun q => by have := q.2.2.2; omega)
        · refine w_iconst (pc' := 67) dX1_has_66 rfl (by decide) ?_
          refine w_goto (tgt := 71) dX1_has_67 rfl ?_
          -- at 71: .ireturn
          try simp (decide := true) only [au_1, nu_2, au_lt, nu_lt, aw_e, nw_e, au_s, au_n, nu_s, nu_n, au_au, nu_nu, au_nu]
          refine w_zreturn dX1_has_71 rfl (by first | exact Or.inl rfl | exact Or.inr rfl | omega) ?_
          have g4 : ¬ _ := fun q => Int.not_le.mpr g4 (lCmp_ge.mpr q)
          exact h1 ⟨g, g2, g3, by omega⟩
    · have g2 := lCmp_ge.mp g2
      exact no (fun q => by have := q.2.1; omega)
theorem c_X1_placeOf {p i j : Int} (hr : rok σ) (hpk : pok σ) (hp : 0 ≤ p ∧ p < σ.1 12) (hs : hs_ σ p i j) (h : K (some (xI (60 * rw_ σ p i + j - σ.2 7 (rw_ σ p i)))) (ov σ G0)) : tvW mX1_placeOf (d + 1) K 0 [some (xR mR), some (xI p), some (xI i), some (xI j)] [] (ov σ G0) bc bs := by
  obtain ⟨⟨p1, p2⟩, hpk⟩ := hpk
  obtain ⟨⟨m1, m2⟩, hpr⟩ := hpk p hp.1 hp.2
  obtain ⟨s1, s2, s3, s4⟩ := hs
  obtain ⟨r1, r2⟩ := hpr i s1 s2
  obtain ⟨⟨l1, l2⟩, ⟨o1, o2⟩, -⟩ := hr.2 _ r1 r2
  have hm := hr.1.2
  refine w_bipush (pc' := 2) dX1_placeOf_0 rfl (by decide +kernel) (by decide) ?_
  refine w_aload_n (pc' := 3) dX1_placeOf_2 rfl rfl ?_
  refine w_iload_n (pc' := 4) dX1_placeOf_3 rfl rfl ?_
  refine w_iload_n (pc' := 5) dX1_placeOf_4 rfl rfl ?_
  -- at 5: .invokevirtual 175
  try simp (decide := true) only [au_1, nu_2, au_lt, nu_lt, aw_e, nw_e, au_s, au_n, nu_s, nu_n, au_au, nu_nu, au_nu]
  refine w_callV2 (pc' := 8) (mc := 0) (ms := 0) dX1_placeOf_5 rfl tX1_rowOf q1302 rfl rfl qs44 q1300 ov_o rfl (Nat.le_of_ble_eq_true rfl) (Nat.le_of_ble_eq_true rfl) ?_
  refine c_X1_rowOf ⟨hp.1, by omega⟩ ⟨s1, by omega⟩ ?_
  refine w_p1 ?_
  refine w_imul (pc' := 9) dX1_placeOf_8 rfl ⟨by first | omega | (simp (decide := true) only [au_1, nu_2, au_lt, nu_lt, aw_e, nw_e, au_s, au_n, nu_s, nu_n, au_au, nu_nu, au_nu]; omega), by first | omega | (simp (decide := true) only [au_1, nu_2, au_lt, nu_lt, aw_e, nw_e, au_s, au_n, nu_s, nu_n, au_au, nu_nu, au_nu]; omega)⟩ ?_
  refine w_iload_n (pc' := 10) dX1_placeOf_9 rfl rfl ?_
  refine w_iadd (pc' := 11) dX1_placeOf_10 rfl ⟨by first | omega | (simp (decide := true) only [au_1, nu_2, au_lt, nu_lt, aw_e, nw_e, au_s, au_n, nu_s, nu_n, au_au, nu_nu, au_nu]; omega), by first | omega | (simp (decide := true) only [au_1, nu_2, au_lt, nu_lt, aw_e, nw_e, au_s, au_n, nu_s, nu_n, au_au, nu_nu, au_nu]; omega)⟩ ?_
  refine w_aload_n (pc' := 12) dX1_placeOf_11 rfl rfl ?_
  refine w_mga 7 (pc' := 15) dX1_placeOf_12 rfl fX1_30_1 rfl ?_
  refine w_aload_n (pc' := 16) dX1_placeOf_15 rfl rfl ?_
  refine w_iload_n (pc' := 17) dX1_placeOf_16 rfl rfl ?_
  refine w_iload_n (pc' := 18) dX1_placeOf_17 rfl rfl ?_
  -- at 18: .invokevirtual 175
  try simp (decide := true) only [au_1, nu_2, au_lt, nu_lt, aw_e, nw_e, au_s, au_n, nu_s, nu_n, au_au, nu_nu, au_nu]
  refine w_callV2 (pc' := 21) (mc := 0) (ms := 0) dX1_placeOf_18 rfl tX1_rowOf q1302 rfl rfl qs44 q1300 ov_o rfl (Nat.le_of_ble_eq_true rfl) (Nat.le_of_ble_eq_true rfl) ?_
  refine c_X1_rowOf ⟨hp.1, by omega⟩ ⟨s1, by omega⟩ ?_
  refine w_p1 ?_
  refine w_mild (pc' := 22) dX1_placeOf_21 rfl rfl (by first | omega | (simp (decide := true) only [au_1, nu_2, au_lt, nu_lt, aw_e, nw_e, au_s, au_n, nu_s, nu_n, au_au, nu_nu, au_nu]; omega)) (by first | omega | (simp (decide := true) only [au_1, nu_2, au_lt, nu_lt, aw_e, nw_e, au_s, au_n, nu_s, nu_n, au_au, nu_nu, au_nu]; omega)) ?_
  refine w_isub (pc' := 23) dX1_placeOf_22 rfl ⟨by first | omega | (simp (decide := true) only [au_1, nu_2, au_lt, nu_lt, aw_e, nw_e, au_s, au_n, nu_s, nu_n, au_au, nu_nu, au_nu]; omega), by first | omega | (simp (decide := true) only [au_1, nu_2, au_lt, nu_lt, aw_e, nw_e, au_s, au_n, nu_s, nu_n, au_au, nu_nu, au_nu]; omega)⟩ ?_
  -- at 23: .ireturn
  try simp (decide := true) only [au_1, nu_2, au_lt, nu_lt, aw_e, nw_e, au_s, au_n, nu_s, nu_n, au_au, nu_nu, au_nu]
  refine w_ireturn dX1_placeOf_23 rfl ?_
  exact h
theorem c_X1_cellAt {p i j : Int} (hr : rok σ) (hpk : pok σ) (hp : 0 ≤ p ∧ p < σ.1 12) (hs : hs_ σ p i j) (h : K (some (xI (ca_ σ p i j))) (ov σ G0)) : tvW mX1_cellAt (d + 2) K 0 [some (xR mR), some (xI p), some (xI i), some (xI j)] [] (ov σ G0) bc bs := by
  have hpk0 := hpk
  obtain ⟨⟨p1, p2⟩, hpk⟩ := hpk
  obtain ⟨⟨m1, m2⟩, hpr⟩ := hpk p hp.1 hp.2
  have hs0 := hs
  obtain ⟨s1, s2, s3, s4⟩ := hs
  obtain ⟨r1, r2⟩ := hpr i s1 s2
  obtain ⟨⟨l1, l2⟩, ⟨o1, o2⟩, -⟩ := hr.2 _ r1 r2
  have hm := hr.1.2
  refine w_aload_n (pc' := 1) dX1_cellAt_0 rfl rfl ?_
  refine w_mga 8 (pc' := 4) dX1_cellAt_1 rfl fX1_34_1 rfl ?_
  refine w_aload_n (pc' := 5) dX1_cellAt_4 rfl rfl ?_
  refine w_iload_n (pc' := 6) dX1_cellAt_5 rfl rfl ?_
  refine w_iload_n (pc' := 7) dX1_cellAt_6 rfl rfl ?_
  refine w_iload_n (pc' := 8) dX1_cellAt_7 rfl rfl ?_
  -- at 8: .invokevirtual 178
  try simp (decide := true) only [au_1, nu_2, au_lt, nu_lt, aw_e, nw_e, au_s, au_n, nu_s, nu_n, au_au, nu_nu, au_nu]
  refine w_callV3 (pc' := 11) (mc := 0) (ms := 0) dX1_cellAt_8 rfl tX1_placeOf q1341 rfl rfl qs50 q1339 ov_o rfl (Nat.le_of_ble_eq_true rfl) (Nat.le_of_ble_eq_true rfl) ?_
  refine c_X1_placeOf hr hpk0 hp hs0 ?_
  refine w_p1 ?_
  refine w_mild (pc' := 12) dX1_cellAt_11 rfl rfl (by first | omega | (simp (decide := true) only [au_1, nu_2, au_lt, nu_lt, aw_e, nw_e, au_s, au_n, nu_s, nu_n, au_au, nu_nu, au_nu]; omega)) (by first | omega | (simp (decide := true) only [au_1, nu_2, au_lt, nu_lt, aw_e, nw_e, au_s, au_n, nu_s, nu_n, au_au, nu_nu, au_nu]; omega)) ?_
  -- at 12: .ireturn
  try simp (decide := true) only [au_1, nu_2, au_lt, nu_lt, aw_e, nw_e, au_s, au_n, nu_s, nu_n, au_au, nu_nu, au_nu]
  refine w_ireturn dX1_cellAt_12 rfl ?_
  exact h
end
