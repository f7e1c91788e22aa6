set_option maxRecDepth 10000
/-! growing -/
theorem euc {R i a i' a' : Int} (h0 : 0 ≤ a) (h1 : a < R) (g0 : 0 ≤ a') (g1 : a' < R) (h : R * i + a = R * i' + a') : i = i' ∧ a = a' := by
  have e1 := ixd (a := i) h0 h1
  have e2 := ixd (a := i') g0 g1
  rw [Int.mul_comm R i, Int.mul_comm R i'] at h
  rw [h] at e1
  omega
def blk (σ : MS) (r c i j : Int) : Int := if c = 0 then 0 else if mvd σ (σ.2 28 (640 * r + 16 * kOf c + 4 * cfI (mOf c) (σ.2 26 r) i j + cfJ (mOf c) (σ.2 27 r) i j)) (mOf c) = 0 then 0 else cel (kOf (mvd σ (σ.2 28 (640 * r + 16 * kOf c + 4 * cfI (mOf c) (σ.2 26 r) i j + cfJ (mOf c) (σ.2 27 r) i j)) (mOf c))) (mOf (mvd σ (σ.2 28 (640 * r + 16 * kOf c + 4 * cfI (mOf c) (σ.2 26 r) i j + cfJ (mOf c) (σ.2 27 r) i j)) (mOf c))) (sOf c)
abbrev GP : Type := (Int → Int) × (Int → Int) × (Int → Int → Int)
def gp0 (σ : MS) (p : Int) : GP := (fun i => σ.2 6 (rw_ σ p i), fun i => σ.2 7 (rw_ σ p i), fun i k => σ.2 8 (60 * rw_ σ p i + k))
def gpS (σ : MS) (r : Int) (P : GP) : GP := (fun i => P.1 (i / σ.2 26 r) * σ.2 27 r, fun i => P.2.1 (i / σ.2 26 r) * σ.2 27 r, fun i k => blk σ r (P.2.2 (i / σ.2 26 r) (k / σ.2 27 r)) (i % σ.2 26 r) (k % σ.2 27 r))
def gpN (σ : MS) (r : Int) (P : GP) : Nat → GP
  | 0 => P
  | n + 1 => gpS σ r (gpN σ r P n)
def gpM (σ : MS) (r : Int) (m : Int) : Nat → Int
  | 0 => m
  | n + 1 => gpM σ r m n * σ.2 26 r
def rowC (σ : MS) (r : Int) (P : GP) (i : Int) : Prop := P.1 i * σ.2 27 r ≤ 60 ∧ (-30 ≤ P.2.1 i * σ.2 27 r ∧ P.2.1 i * σ.2 27 r ≤ 30) ∧ ∀ k, 0 ≤ k → k < P.1 i → (P.2.2 i k = 0 ∨ mOf (P.2.2 i k) % 2 = 0 ∨ σ.2 26 r = σ.2 27 r)
def okS (σ : MS) (r m : Int) (P : GP) : Prop := m * σ.2 26 r ≤ 60 ∧ ∀ i, 0 ≤ i → i < m → rowC σ r P i
def gpok (σ : MS) (m : Int) (P : GP) : Prop := ∀ i, 0 ≤ i → i < m → (0 ≤ P.1 i ∧ P.1 i ≤ 60) ∧ (-30 ≤ P.2.1 i ∧ P.2.1 i ≤ 30) ∧ ∀ k, 0 ≤ k → k < P.1 i → isC (σ.1 5) (P.2.2 i k) ∧ rg (P.2.2 i k)
def rep (s m : Int) (P : GP) (f g h : Int → Int) : Prop := ∀ i, 0 ≤ i → i < m → g (60 * s + i) = P.1 i ∧ h (60 * s + i) = P.2.1 i ∧ ∀ k, 0 ≤ k → k < P.1 i → f (60 * (60 * s + i) + k) = P.2.2 i k
def gw (σ : MS) (f g h : Int → Int) (x y : Int) : MS := nu (nu (au (au (au σ 30 f) 31 g) 32 h) 18 x) 19 y
theorem blk_ix {σ : MS} {r c i j : Int} (hK : kok σ) (hQ : qok σ) (hc : isC (σ.1 5) c) (h0 : c ≠ 0) (hr : 0 ≤ r ∧ r < σ.1 29) (hi : 0 ≤ i ∧ i < mvR (mOf c) (σ.2 26 r) (σ.2 27 r)) (hj : 0 ≤ j ∧ j < mvC (mOf c) (σ.2 26 r) (σ.2 27 r)) : (0 ≤ kOf c ∧ kOf c < σ.1 5) ∧ ((0 ≤ cfI (mOf c) (σ.2 26 r) i j ∧ cfI (mOf c) (σ.2 26 r) i j < σ.2 26 r) ∧ 0 ≤ cfJ (mOf c) (σ.2 27 r) i j ∧ cfJ (mOf c) (σ.2 27 r) i j < σ.2 27 r) ∧ isC (σ.1 5) (σ.2 28 (640 * r + 16 * kOf c + 4 * cfI (mOf c) (σ.2 26 r) i j + cfJ (mOf c) (σ.2 27 r) i j)) := by
  have hk := isC_k hc h0
  have hcf := cf_r (mOf_r (c := c)) hi.1 hi.2 hj.1 hj.2
  have hq := hQ.2 r hr.1 hr.2
  have hK1 := hK.1
  exact ⟨hk, hcf, (hq.2.2 _ _ _ hk.1 (by omega) hcf.1.1 (by omega) hcf.2.1 (by omega)).1⟩
theorem cel_r {k m s n : Int} (hk : 0 ≤ k ∧ k < n) (hn : n ≤ 40) (hm : 0 ≤ m ∧ m < 8) (hs : -32768 ≤ s ∧ s ≤ 32767) : isC n (cel k m s) ∧ rg (cel k m s) ∧ cel k m s ≠ 0 := by
  unfold cel isC rg
  omega
theorem blk_r {σ : MS} {r c i j : Int} (hK : kok σ) (hQ : qok σ) (hc : isC (σ.1 5) c) (hrg : rg c) (hr : 0 ≤ r ∧ r < σ.1 29) (hi : c ≠ 0 → 0 ≤ i ∧ i < mvR (mOf c) (σ.2 26 r) (σ.2 27 r)) (hj : c ≠ 0 → 0 ≤ j ∧ j < mvC (mOf c) (σ.2 26 r) (σ.2 27 r)) : isC (σ.1 5) (blk σ r c i j) ∧ rg (blk σ r c i j) := by
  unfold blk
  split
  · exact ⟨Or.inl rfl, by decide⟩
  · rename_i h0
    obtain ⟨hk, hcf, hb⟩ := blk_ix hK hQ hc h0 hr (hi h0) (hj h0)
    have hq := (hQ.2 r hr.1 hr.2).2.2 _ _ _ hk.1 (by have := hK.1; omega) hcf.1.1 (by have := (hQ.2 r hr.1 hr.2).1; omega) hcf.2.1 (by have := (hQ.2 r hr.1 hr.2).2.1; omega)
    have hd := mvd_r hK hb (by unfold rg; omega) (mOf_r (c := c))
    split
    · exact ⟨Or.inl rfl, by decide⟩
    · rename_i h1
      have hk2 := isC_k hd.1 h1
      have := cel_r (m := mOf (mvd σ (σ.2 28 (640 * r + 16 * kOf c + 4 * cfI (mOf c) (σ.2 26 r) i j + cfJ (mOf c) (σ.2 27 r) i j)) (mOf c))) hk2 hK.1.2 mOf_r (sOf_r hrg)
      exact ⟨this.1, this.2.1⟩
section
variable {d : Nat} {K : Option XV → GH → Prop} {G0 G : GH} {bc bs : Nat} {σ : MS} {M : tv_M} {pc : Nat} {L : List (Option XV)} {st : List XV}
theorem c_X1_block {r c i j : Int} (hK : kok σ) (hQ : qok σ) (hc : isC (σ.1 5) c) (hrg : rg c) (hr : 0 ≤ r ∧ r < σ.1 29) (hi : c ≠ 0 → 0 ≤ i ∧ i < mvR (mOf c) (σ.2 26 r) (σ.2 27 r)) (hj : c ≠ 0 → 0 ≤ j ∧ j < mvC (mOf c) (σ.2 26 r) (σ.2 27 r)) (h : ∀ x y, K (some (xI (blk σ r c i j))) (ov (nu (nu σ 18 x) 19 y) G0)) : tvW mX1_block (d + 2) K 0 [some (xR mR), some (xI r), some (xI c), some (xI i), some (xI j), none] [] (ov σ G0) bc bs := by
  unfold blk at h
  refine w_iload_n (pc' := 1) dX1_block_0 rfl rfl ?_
  -- at 1: .ifCond .ne 5
  try simp (decide := true) only [au_1, nu_2, au_lt, nu_lt, aw_e, nw_e, au_s, au_n, nu_s, nu_n, au_au, nu_nu, au_nu]
  refine w_if_ne (pc' := 4) (tgt := 6) dX1_block_1 rfl rfl (fun g => ?_) (fun g => ?_)
  · rw [if_neg g] at h
    have hi := hi g
    have hj := hj g
    obtain ⟨hk, hcf, hb⟩ := blk_ix hK hQ hc g hr hi hj
    have hq1 := hQ.1
    have hq := hQ.2 r hr.1 hr.2
    have hK1 := hK.1
    have hq3 := hq.2.2 _ _ _ hk.1 (by omega) hcf.1.1 (by omega) hcf.2.1 (by omega)
    have hRC : 0 ≤ i ∧ i ≤ 4 ∧ 0 ≤ j ∧ j ≤ 4 := by
      unfold mvR at hi
      unfold mvC at hj
      split at hi <;> split at hj <;> omega
    generalize he : σ.2 28 (640 * r + 16 * kOf c + 4 * cfI (mOf c) (σ.2 26 r) i j + cfJ (mOf c) (σ.2 27 r) i j) = u at *
    refine w_aload_n (pc' := 7) dX1_block_6 rfl rfl ?_
    refine w_iload_n (pc' := 8) dX1_block_7 rfl rfl ?_
    -- at 8: .invokestatic 160
    try simp (decide := true) only [au_1, nu_2, au_lt, nu_lt, aw_e, nw_e, au_s, au_n, nu_s, nu_n, au_au, nu_nu, au_nu]
    refine w_callS1 (pc' := 11) (mc := 0) (ms := 0) dX1_block_8 rfl tX1_moveOf q1356 q1355 rfl (Nat.le_of_ble_eq_true rfl) (Nat.le_of_ble_eq_true rfl) ?_
    refine c_X1_moveOf ?_
    refine w_p1 ?_
    refine w_aload_n (pc' := 12) dX1_block_11 rfl rfl ?_
    refine w_mga 26 (pc' := 15) dX1_block_12 rfl fX1_64_1 rfl ?_
    refine w_iload_n (pc' := 16) dX1_block_15 rfl rfl ?_
    refine w_mild (pc' := 17) dX1_block_16 rfl rfl (by first | omega | (simp (decide := true) only [au_1, nu_2, au_lt, nu_lt, aw_e, nw_e, au_s, au_n, nu_s, nu_n, au_au, nu_nu, au_nu]; omega)) (by first | omega | (simp (decide := true) only [au_1, nu_2, au_lt, nu_lt, aw_e, nw_e, au_s, au_n, nu_s, nu_n, au_au, nu_nu, au_nu]; omega)) ?_
    refine w_aload_n (pc' := 18) dX1_block_17 rfl rfl ?_
    refine w_mga 27 (pc' := 21) dX1_block_18 rfl fX1_67_1 rfl ?_
    refine w_iload_n (pc' := 22) dX1_block_21 rfl rfl ?_
    refine w_mild (pc' := 23) dX1_block_22 rfl rfl (by first | omega | (simp (decide := true) only [au_1, nu_2, au_lt, nu_lt, aw_e, nw_e, au_s, au_n, nu_s, nu_n, au_au, nu_nu, au_nu]; omega)) (by first | omega | (simp (decide := true) only [au_1, nu_2, au_lt, nu_lt, aw_e, nw_e, au_s, au_n, nu_s, nu_n, au_au, nu_nu, au_nu]; omega)) ?_
    refine w_iload_n (pc' := 24) dX1_block_23 rfl rfl ?_
    refine w_iload (pc' := 26) dX1_block_24 rfl rfl ?_
    -- at 26: .invokevirtual 227
    try simp (decide := true) only [au_1, nu_2, au_lt, nu_lt, aw_e, nw_e, au_s, au_n, nu_s, nu_n, au_au, nu_nu, au_nu]
    refine w_callV5 (pc' := 29) (mc := 0) (ms := 0) dX1_block_26 rfl tX1_comesFrom q1387 rfl rfl qs52 q1385 ov_o rfl (Nat.le_of_ble_eq_true rfl) (Nat.le_of_ble_eq_true rfl) ?_
    refine c_X1_comesFrom mOf_r (by omega) (by omega) (by omega) (by omega) ?_
    refine w_p0 ?_
    refine w_aload_n (pc' := 30) dX1_block_29 rfl rfl ?_
    refine w_aload_n (pc' := 31) dX1_block_30 rfl rfl ?_
    refine w_mga 28 (pc' := 34) dX1_block_31 rfl fX1_70_1 rfl ?_
    refine w_sipush (pc' := 37) dX1_block_34 rfl (by decide +kernel) (by decide) ?_
    refine w_iload_n (pc' := 38) dX1_block_37 rfl rfl ?_
    refine w_imul (pc' := 39) dX1_block_38 rfl ⟨by first | omega | (simp (decide := true) only [au_1, nu_2, au_lt, nu_lt, aw_e, nw_e, au_s, au_n, nu_s, nu_n, au_au, nu_nu, au_nu]; omega), by first | omega | (simp (decide := true) only [au_1, nu_2, au_lt, nu_lt, aw_e, nw_e, au_s, au_n, nu_s, nu_n, au_au, nu_nu, au_nu]; omega)⟩ ?_
    refine w_bipush (pc' := 41) dX1_block_39 rfl (by decide +kernel) (by decide) ?_
    refine w_iload_n (pc' := 42) dX1_block_41 rfl rfl ?_
    -- at 42: .invokestatic 156
    try simp (decide := true) only [au_1, nu_2, au_lt, nu_lt, aw_e, nw_e, au_s, au_n, nu_s, nu_n, au_au, nu_nu, au_nu]
    refine w_callS1 (pc' := 45) (mc := 0) (ms := 0) dX1_block_42 rfl tX1_kindOf q1352 q1351 rfl (Nat.le_of_ble_eq_true rfl) (Nat.le_of_ble_eq_true rfl) ?_
    refine c_X1_kindOf ?_
    refine w_p1 ?_
    refine w_imul (pc' := 46) dX1_block_45 rfl ⟨by first | omega | (simp (decide := true) only [au_1, nu_2, au_lt, nu_lt, aw_e, nw_e, au_s, au_n, nu_s, nu_n, au_au, nu_nu, au_nu]; omega), by first | omega | (simp (decide := true) only [au_1, nu_2, au_lt, nu_lt, aw_e, nw_e, au_s, au_n, nu_s, nu_n, au_au, nu_nu, au_nu]; omega)⟩ ?_
    refine w_iadd (pc' := 47) dX1_block_46 rfl ⟨by first | omega | (simp (decide := true) only [au_1, nu_2, au_lt, nu_lt, aw_e, nw_e, au_s, au_n, nu_s, nu_n, au_au, nu_nu, au_nu]; omega), by first | omega | (simp (decide := true) only [au_1, nu_2, au_lt, nu_lt, aw_e, nw_e, au_s, au_n, nu_s, nu_n, au_au, nu_nu, au_nu]; omega)⟩ ?_
    refine w_iconst (pc' := 48) dX1_block_47 rfl (by decide) ?_
    refine w_aload_n (pc' := 49) dX1_block_48 rfl rfl ?_
    refine w_mgi 18 (pc' := 52) dX1_block_49 rfl fX1_215_1 rfl ?_
    refine w_imul (pc' := 53) dX1_block_52 rfl ⟨by first | omega | (simp (decide := true) only [au_1, nu_2, au_lt, nu_lt, aw_e, nw_e, au_s, au_n, nu_s, nu_n, au_au, nu_nu, au_nu]; omega), by first | omega | (simp (decide := true) only [au_1, nu_2, au_lt, nu_lt, aw_e, nw_e, au_s, au_n, nu_s, nu_n, au_au, nu_nu, au_nu]; omega)⟩ ?_
    refine w_iadd (pc' := 54) dX1_block_53 rfl ⟨by first | omega | (simp (decide := true) only [au_1, nu_2, au_lt, nu_lt, aw_e, nw_e, au_s, au_n, nu_s, nu_n, au_au, nu_nu, au_nu]; omega), by first | omega | (simp (decide := true) only [au_1, nu_2, au_lt, nu_lt, aw_e, nw_e, au_s, au_n, nu_s, nu_n, au_au, nu_nu, au_nu]; omega)⟩ ?_
    refine w_aload_n (pc' := 55) dX1_block_54 rfl rfl ?_
    refine w_mgi 19 (pc' := 58) dX1_block_55 rfl fX1_218_1 rfl ?_
    refine w_iadd (pc' := 59) dX1_block_58 rfl ⟨by first | omega | (simp (decide := true) only [au_1, nu_2, au_lt, nu_lt, aw_e, nw_e, au_s, au_n, nu_s, nu_n, au_au, nu_nu, au_nu]; omega), by first | omega | (simp (decide := true) only [au_1, nu_2, au_lt, nu_lt, aw_e, nw_e, au_s, au_n, nu_s, nu_n, au_au, nu_nu, au_nu]; omega)⟩ ?_
    refine w_mild (pc' := 60) dX1_block_59 rfl rfl (by first | omega | (simp (decide := true) only [au_1, nu_2, au_lt, nu_lt, aw_e, nw_e, au_s, au_n, nu_s, nu_n, au_au, nu_nu, au_nu]; omega)) (by first | omega | (simp (decide := true) only [au_1, nu_2, au_lt, nu_lt, aw_e, nw_e, au_s, au_n, nu_s, nu_n, au_au, nu_nu, au_nu]; omega)) ?_
    -- at 60: .iload_n 2
    try simp (decide := true) only [au_1, nu_2, au_lt, nu_lt, aw_e, nw_e, au_s, au_n, nu_s, nu_n, au_au, nu_nu, au_nu]
    rw [he]
    refine w_iload_n (pc' := 61) dX1_block_60 rfl rfl ?_
    -- at 61: .invokestatic 160
    try simp (decide := true) only [au_1, nu_2, au_lt, nu_lt, aw_e, nw_e, au_s, au_n, nu_s, nu_n, au_au, nu_nu, au_nu]
    refine w_callS1 (pc' := 64) (mc := 0) (ms := 0) dX1_block_61 rfl tX1_moveOf q1356 q1355 rfl (Nat.le_of_ble_eq_true rfl) (Nat.le_of_ble_eq_true rfl) ?_
    refine c_X1_moveOf ?_
    refine w_p1 ?_
    have hd := mvd_r hK hb (by unfold rg; omega) (mOf_r (c := c))
    refine w_callV2 (pc' := 67) (mc := 0) (ms := 0) dX1_block_64 rfl tX1_moved q1391 rfl rfl qs53 q1389 ov_o rfl (Nat.le_of_ble_eq_true rfl) (Nat.le_of_ble_eq_true rfl) ?_
    refine c_X1_moved hK hb ⟨by omega, by omega⟩ mOf_r ?_
    refine w_p1 ?_
    refine w_st (st' := [xI (mvd σ u (mOf c))]) rfl ?_
    refine w_ist5 (pc' := 69) dX1_block_67 rfl rfl ?_
    refine w_iload (pc' := 71) dX1_block_69 rfl rfl ?_
    -- at 71: .ifCond .ne 7
    try simp (decide := true) only [au_1, nu_2, au_lt, nu_lt, aw_e, nw_e, au_s, au_n, nu_s, nu_n, au_au, nu_nu, au_nu]
    refine w_if_ne (pc' := 74) (tgt := 78) dX1_block_71 rfl rfl (fun g2 => ?_) (fun g2 => ?_)
    · rw [if_neg g2] at h
      have hk2 := isC_k hd.1 g2
      refine w_iload (pc' := 80) dX1_block_78 rfl rfl ?_
      -- at 80: .invokestatic 156
      try simp (decide := true) only [au_1, nu_2, au_lt, nu_lt, aw_e, nw_e, au_s, au_n, nu_s, nu_n, au_au, nu_nu, au_nu]
      refine w_callS1 (pc' := 83) (mc := 0) (ms := 0) dX1_block_80 rfl tX1_kindOf q1352 q1351 rfl (Nat.le_of_ble_eq_true rfl) (Nat.le_of_ble_eq_true rfl) ?_
      refine c_X1_kindOf ?_
      refine w_p1 ?_
      refine w_iload (pc' := 85) dX1_block_83 rfl rfl ?_
      -- at 85: .invokestatic 160
      try simp (decide := true) only [au_1, nu_2, au_lt, nu_lt, aw_e, nw_e, au_s, au_n, nu_s, nu_n, au_au, nu_nu, au_nu]
      refine w_callS1 (pc' := 88) (mc := 0) (ms := 0) dX1_block_85 rfl tX1_moveOf q1356 q1355 rfl (Nat.le_of_ble_eq_true rfl) (Nat.le_of_ble_eq_true rfl) ?_
      refine c_X1_moveOf ?_
      refine w_p1 ?_
      refine w_iload_n (pc' := 89) dX1_block_88 rfl rfl ?_
      -- at 89: .invokestatic 163
      try simp (decide := true) only [au_1, nu_2, au_lt, nu_lt, aw_e, nw_e, au_s, au_n, nu_s, nu_n, au_au, nu_nu, au_nu]
      refine w_callS1 (pc' := 92) (mc := 0) (ms := 0) dX1_block_89 rfl tX1_shadeOf q1363 q1362 rfl (Nat.le_of_ble_eq_true rfl) (Nat.le_of_ble_eq_true rfl) ?_
      refine c_X1_shadeOf hrg ?_
      refine w_p1 ?_
      refine w_callS3 (pc' := 95) (mc := 0) (ms := 0) dX1_block_92 rfl tX1_cell q1329 q1328 rfl (Nat.le_of_ble_eq_true rfl) (Nat.le_of_ble_eq_true rfl) ?_
      refine c_X1_cell ⟨hk2.1, by omega⟩ mOf_r (sOf_r hrg) ?_
      refine w_p1 ?_
      refine w_ireturn dX1_block_95 rfl ?_
      exact h _ _
    · rw [if_pos g2] at h
      refine w_iconst (pc' := 75) dX1_block_74 rfl (by decide) ?_
      refine w_goto (tgt := 95) dX1_block_75 rfl ?_
      -- at 95: .ireturn
      try simp (decide := true) only [au_1, nu_2, au_lt, nu_lt, aw_e, nw_e, au_s, au_n, nu_s, nu_n, au_au, nu_nu, au_nu]
      refine w_ireturn dX1_block_95 rfl ?_
      exact h _ _
  · rw [if_pos g] at h
    have h := h (σ.1 18) (σ.1 19)
    rw [nu_id, nu_id] at h
    refine w_iconst (pc' := 5) dX1_block_4 rfl (by decide) ?_
    -- at 5: .ireturn
    try simp (decide := true) only [au_1, nu_2, au_lt, nu_lt, aw_e, nw_e, au_s, au_n, nu_s, nu_n, au_au, nu_nu, au_nu]
    refine w_ireturn dX1_block_5 rfl ?_
    exact h
end
