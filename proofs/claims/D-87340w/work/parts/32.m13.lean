set_option maxRecDepth 10000
/-! how many come of one -/
def sat (x : Int) : Int := if x ≤ 9223372036854775807 then x else -1
theorem sat_t {x : Int} (h : x ≤ 9223372036854775807) : sat x = x := if_pos h
theorem sat_f {x : Int} (h : ¬ x ≤ 9223372036854775807) : sat x = -1 := if_neg h
theorem lAdd_w {a b : Int} (a0 : 0 ≤ a) (a1 : a ≤ 9223372036854775807) (b0 : 0 ≤ b) (b1 : b ≤ 9223372036854775807) (h : ¬ a + b ≤ 9223372036854775807) : lAdd a b = a + b - 18446744073709551616 := by
  unfold lAdd
  rw [← Int64.ofInt_add, Int64.toInt_ofInt]
  show Int.bmod (a + b) 18446744073709551616 = _
  unfold Int.bmod
  simp only []
  split <;> omega
def fMn (σ : MS) (r k j n : Int) : Int := sm (fun n => if σ.2 28 (640 * r + 16 * k + n) ≠ 0 ∧ kOf (σ.2 28 (640 * r + 16 * k + n)) = j then 1 else 0) n
def fF (σ : MS) (r a : Int) : Nat → Int → Int
  | 0 => fun k => if k = a then 1 else 0
  | s + 1 => fun j => sm (fun k => fF σ r a s k * fMn σ r k j 16) (σ.1 5)
theorem fMn_r {σ : MS} {r k j n : Int} (h : 0 ≤ n) : 0 ≤ fMn σ r k j n := (sm_r 1 h (fun i _ _ => by split <;> omega)).1
theorem sm_nn {f : Int → Int} {n : Int} (h : ∀ i, 0 ≤ i → i < n → 0 ≤ f i) : 0 ≤ sm f n := by
  have : ∀ m : Nat, (m : Int) ≤ n → 0 ≤ smN f m := by
    intro m
    induction m with
    | zero => intro _; exact Int.le_refl _
    | succ m ih => intro hm; have := ih (by omega); have := h m (by omega) (by omega); show 0 ≤ smN f m + f m; omega
  unfold sm
  by_cases h0 : 0 ≤ n
  · exact this _ (by omega)
  · rw [show n.toNat = 0 by omega]; exact Int.le_refl _
theorem fF_r {σ : MS} {r a : Int} : ∀ (s : Nat) (k : Int), 0 ≤ fF σ r a s k
  | 0, k => by show 0 ≤ (if k = a then (1 : Int) else 0); split <;> omega
  | s + 1, k => sm_nn (fun i _ _ => Int.mul_nonneg (fF_r s i) (fMn_r (by omega)))
noncomputable def aFore (σ : MS) (r a n b : Int) : Int := ic ((0 ≤ r ∧ r < σ.1 29) ∧ (0 ≤ a ∧ a < σ.1 5) ∧ (0 ≤ b ∧ b < σ.1 5) ∧ 0 ≤ n ∧ n ≤ 60) (if fF σ r a n.toNat b ≤ 9223372036854775807 then fF σ r a n.toNat b else -2) (-1)
section
variable {d : Nat} {K : Option XV → GH → Prop} {G0 G : GH} {bc bs : Nat} {σ : MS} {M : tv_M} {pc : Nat} {L : List (Option XV)} {st : List XV}
theorem c_X1_sum {x y : Int} (hx : 0 ≤ x) (hy : 0 ≤ y) (h : K (some (xL (sat (x + y)))) G) : tvW mX1_sum d K 0 [some (xL (sat x)), none, some (xL (sat y)), none] [] G bc bs := by
  have bad : ¬ x + y ≤ 9223372036854775807 → tvW mX1_sum d K 20 [some (xL (sat x)), none, some (xL (sat y)), none] [] G bc bs := by
    intro q
    rw [sat_f q] at h
    refine w_ldc2 (z := -1) (pc' := 23) dX1_sum_20 rfl q1430 (by decide +kernel) (by decide) ?_
    refine w_goto (tgt := 29) dX1_sum_23 rfl ?_
    -- at 29: .lreturn
    try simp (decide := true) only [au_1, nu_2, au_lt, nu_lt, aw_e, nw_e, au_s, au_n, nu_s, nu_n, au_au, nu_nu, au_nu]
    refine w_lreturn dX1_sum_29 rfl ?_
    exact h
  refine w_lload_n (pc' := 1) dX1_sum_0 rfl rfl ?_
  refine w_lconst (z := 0) (pc' := 2) dX1_sum_1 rfl rfl (by decide) ?_
  refine w_lcmp (pc' := 3) dX1_sum_2 rfl ?_
  -- at 3: .ifCond .lt 17
  try simp (decide := true) only [au_1, nu_2, au_lt, nu_lt, aw_e, nw_e, au_s, au_n, nu_s, nu_n, au_au, nu_nu, au_nu]
  refine w_if_lt (pc' := 6) (tgt := 20) dX1_sum_3 rfl rfl (fun g => ?_) (fun g => ?_)
  · have g := lCmp_lt.mp g
    refine bad (fun q => ?_)
    rw [sat_t (by omega)] at g
    omega
  · have g := lCmp_ge.mp g
    have hx1 : x ≤ 9223372036854775807 := by
      apply Classical.byContradiction
      intro q
      rw [sat_f q] at g
      omega
    refine w_lload_n (pc' := 7) dX1_sum_6 rfl rfl ?_
    refine w_lconst (z := 0) (pc' := 8) dX1_sum_7 rfl rfl (by decide) ?_
    refine w_lcmp (pc' := 9) dX1_sum_8 rfl ?_
    -- at 9: .ifCond .lt 11
    try simp (decide := true) only [au_1, nu_2, au_lt, nu_lt, aw_e, nw_e, au_s, au_n, nu_s, nu_n, au_au, nu_nu, au_nu]
    refine w_if_lt (pc' := 12) (tgt := 20) dX1_sum_9 rfl rfl (fun g2 => ?_) (fun g2 => ?_)
    · have g2 := lCmp_lt.mp g2
      refine bad (fun q => ?_)
      rw [sat_t (by omega)] at g2
      omega
    · have g2 := lCmp_ge.mp g2
      have hy1 : y ≤ 9223372036854775807 := by
        apply Classical.byContradiction
        intro q
        rw [sat_f q] at g2
        omega
      rw [sat_t hx1, sat_t hy1] at bad ⊢
      refine w_lload_n (pc' := 13) dX1_sum_12 rfl rfl ?_
      refine w_lload_n (pc' := 14) dX1_sum_13 rfl rfl ?_
      refine w_ladd (pc' := 15) dX1_sum_14 rfl ?_
      refine w_lconst (z := 0) (pc' := 16) dX1_sum_15 rfl rfl (by decide) ?_
      refine w_lcmp (pc' := 17) dX1_sum_16 rfl ?_
      -- at 17: .ifCond .ge 9
      try simp (decide := true) only [au_1, nu_2, au_lt, nu_lt, aw_e, nw_e, au_s, au_n, nu_s, nu_n, au_au, nu_nu, au_nu]
      refine w_if_ge (pc' := 20) (tgt := 26) dX1_sum_17 rfl rfl (fun g3 => ?_) (fun g3 => ?_)
      · have g3 := lCmp_ge.mp g3
        have hs : x + y ≤ 9223372036854775807 := by
          apply Classical.byContradiction
          intro q
          rw [lAdd_w hx hx1 hy hy1 q] at g3
          omega
        refine w_lload_n (pc' := 27) dX1_sum_26 rfl rfl ?_
        refine w_lload_n (pc' := 28) dX1_sum_27 rfl rfl ?_
        refine w_ladd (pc' := 29) dX1_sum_28 rfl ?_
        -- at 29: .lreturn
        try simp (decide := true) only [au_1, nu_2, au_lt, nu_lt, aw_e, nw_e, au_s, au_n, nu_s, nu_n, au_au, nu_nu, au_nu]
        refine w_lreturn dX1_sum_29 rfl ?_
        rw [lAdd_of ⟨by omega, hs⟩]
        rw [sat_t hs] at h
        exact h
      · have g3 : ¬ _ := fun q => Int.not_le.mpr g3 (lCmp_ge.mpr q)
        refine bad (fun q => g3 ?_)
        rw [lAdd_of ⟨by omega, q⟩]
        omega
theorem c_X1_foretold {r a n b : Int} (hK : kok σ) (hQ : qok σ) (h : ∀ f g, K (some (xL (aFore σ r a n b))) (ov (au (au σ 33 (f)) 34 (g)) G0)) : tvW mX1_foretold (d + 1) K 0 [some (xR mR), some (xI r), some (xI a), some (xI n), some (xI b), none, none, none, none] [] (ov σ G0) bc bs := by
  have e0 : (au (au σ 33 (σ.2 33)) 34 (σ.2 34)) = σ := by rw [au_id, au_id]
  unfold aFore at h
  have bad : ¬ ((0 ≤ r ∧ r < σ.1 29) ∧ (0 ≤ a ∧ a < σ.1 5) ∧ (0 ≤ b ∧ b < σ.1 5) ∧ 0 ≤ n ∧ n ≤ 60) → tvW mX1_foretold (d + 1) K 35 [some (xR mR), some (xI r), some (xI a), some (xI n), some (xI b), none, none, none, none] [] (ov σ G0) bc bs := by
    intro q
    rw [ic_f q] at h
    have h := h (σ.2 33) (σ.2 34)
    rw [e0] at h
    refine w_ldc2 (z := -1) (pc' := 38) dX1_foretold_35 rfl q1430 (by decide +kernel) (by decide) ?_
    -- at 38: .lreturn
    try simp (decide := true) only [au_1, nu_2, au_lt, nu_lt, aw_e, nw_e, au_s, au_n, nu_s, nu_n, au_au, nu_nu, au_nu]
    refine w_lreturn dX1_foretold_38 rfl ?_
    exact h
  refine w_aload_n (pc' := 1) dX1_foretold_0 rfl rfl ?_
  refine w_iload_n (pc' := 2) dX1_foretold_1 rfl rfl ?_
  refine w_callV1 (pc' := 5) (mc := 0) (ms := 0) dX1_foretold_2 rfl tX1_isRule q1411 rfl rfl qs55 q1409 ov_o rfl (Nat.le_of_ble_eq_true rfl) (Nat.le_of_ble_eq_true rfl) ?_
  refine c_X1_isRule  (fun g2a g2b => w_p1 ?_) (fun g2 => w_p1 ?_)
  rotate_left
  · refine w_if_eq (pc' := 8) (tgt := 35) dX1_foretold_5 rfl rfl (fun h_ => ?_) (fun h_ => False.elim (by omega))
    exact bad (by omega)
  refine w_if_eq (pc' := 8) (tgt := 35) dX1_foretold_5 rfl rfl (fun h_ => False.elim (by omega)) (fun h_ => ?_)
  refine w_aload_n (pc' := 9) dX1_foretold_8 rfl rfl ?_
  refine w_iload_n (pc' := 10) dX1_foretold_9 rfl rfl ?_
  refine w_callV1 (pc' := 13) (mc := 0) (ms := 0) dX1_foretold_10 rfl tX1_isKind q1270 rfl rfl qs39 q1268 ov_o rfl (Nat.le_of_ble_eq_true rfl) (Nat.le_of_ble_eq_true rfl) ?_
  refine c_X1_isKind  (fun g10a g10b => w_p1 ?_) (fun g10 => w_p1 ?_)
  rotate_left
  · refine w_if_eq (pc' := 16) (tgt := 35) dX1_foretold_13 rfl rfl (fun h_ => ?_) (fun h_ => False.elim (by omega))
    exact bad (by omega)
  refine w_if_eq (pc' := 16) (tgt := 35) dX1_foretold_13 rfl rfl (fun h_ => False.elim (by omega)) (fun h_ => ?_)
  refine w_aload_n (pc' := 17) dX1_foretold_16 rfl rfl ?_
  refine w_iload (pc' := 19) dX1_foretold_17 rfl rfl ?_
  refine w_callV1 (pc' := 22) (mc := 0) (ms := 0) dX1_foretold_19 rfl tX1_isKind q1270 rfl rfl qs39 q1268 ov_o rfl (Nat.le_of_ble_eq_true rfl) (Nat.le_of_ble_eq_true rfl) ?_
  refine c_X1_isKind  (fun g19a g19b => w_p1 ?_) (fun g19 => w_p1 ?_)
  rotate_left
  · refine w_if_eq (pc' := 25) (tgt := 35) dX1_foretold_22 rfl rfl (fun h_ => ?_) (fun h_ => False.elim (by omega))
    exact bad (by omega)
  refine w_if_eq (pc' := 25) (tgt := 35) dX1_foretold_22 rfl rfl (fun h_ => False.elim (by omega)) (fun h_ => ?_)
  refine w_iload_n (pc' := 26) dX1_foretold_25 rfl rfl ?_
  refine w_if_lt (pc' := 29) (tgt := 35) dX1_foretold_26 rfl rfl (fun g26 => by exact bad (by omega)) (fun g26 => ?_)
  refine w_iload_n (pc' := 30) dX1_foretold_29 rfl rfl ?_
  refine w_bipush (pc' := 32) dX1_foretold_30 rfl (by decide +kernel) (by decide) ?_
  refine w_icmp_le (pc' := 35) (tgt := 39) dX1_foretold_32 rfl rfl (fun g32 => ?_) (fun g32 => by exact bad (by omega))
  -- at 39: .iconst 0
  have hr : 0 ≤ r ∧ r < σ.1 29 := ⟨g2a, g2b⟩
  rw [ic_t ⟨hr, by omega, by omega, by omega, by omega⟩] at h
  have hK1 := hK.1
  have hQ1 := hQ.1
  have hblk : ∀ k m, 0 ≤ k → k < σ.1 5 → 0 ≤ m → m < 16 → isC (σ.1 5) (σ.2 28 (640 * r + 16 * k + m)) := by
    intro k m k0 k1 m0 m1
    have := ((hQ.2 r hr.1 hr.2).2.2 k (m / 4) (m % 4) k0 (by omega) (by omega) (by omega) (by omega) (by omega)).1
    rwa [show 640 * r + 16 * k + 4 * (m / 4) + m % 4 = 640 * r + 16 * k + m by omega] at this
  have steps : ∀ (j : Nat) (s : Int) (f g : Int → Int) (x6 x7 x8 : Option XV), s + j = n → 0 ≤ s → (∀ k, 0 ≤ k → k < σ.1 5 → f k = sat (fF σ r a s.toNat (k))) → tvW mX1_foretold (d + 1) K 78 [some (xR mR), some (xI r), some (xI a), some (xI n), some (xI b), some (xI s), x6, x7, x8] [] (ov (au (au σ 33 (f)) 34 (g)) G0) bc bs := by
    intro j
    induction j with
    | zero =>
      intro s f g x6 x7 x8 hs s0 hf
      have es : s = n := by omega
      subst es
      have hfb := hf b (by omega) (by omega)
      have hnn := fF_r (σ := σ) (r := r) (a := a) s.toNat b
      refine w_iload (pc' := 80) dX1_foretold_78 rfl rfl ?_
      refine w_iload_n (pc' := 81) dX1_foretold_80 rfl rfl ?_
      -- at 81: .if_icmp .ge 172
      try simp (decide := true) only [au_1, nu_2, au_lt, nu_lt, aw_e, nw_e, au_s, au_n, nu_s, nu_n, au_au, nu_nu, au_nu]
      refine w_icmp_ge (pc' := 84) (tgt := 253) dX1_foretold_81 rfl rfl (fun h_ => ?_) (fun h_ => False.elim (by first | omega | (simp (decide := true) only [au_1, nu_2, au_lt, nu_lt, aw_e, nw_e, au_s, au_n, nu_s, nu_n, au_au, nu_nu, au_nu] at h_; omega)))
      refine w_aload_n (pc' := 254) dX1_foretold_253 rfl rfl ?_
      refine w_mga 33 (pc' := 257) dX1_foretold_254 rfl fX1_82_1 rfl ?_
      refine w_iload (pc' := 259) dX1_foretold_257 rfl rfl ?_
      refine w_mlld (pc' := 260) dX1_foretold_259 rfl rfl (by first | omega | (simp (decide := true) only [au_1, nu_2, au_lt, nu_lt, aw_e, nw_e, au_s, au_n, nu_s, nu_n, au_au, nu_nu, au_nu]; omega)) (by first | omega | (simp (decide := true) only [au_1, nu_2, au_lt, nu_lt, aw_e, nw_e, au_s, au_n, nu_s, nu_n, au_au, nu_nu, au_nu]; omega)) ?_
      -- at 260: .lconst 0
      try simp (decide := true) only [au_1, nu_2, au_lt, nu_lt, aw_e, nw_e, au_s, au_n, nu_s, nu_n, au_au, nu_nu, au_nu]
      rw [hfb]
      refine w_lconst (z := 0) (pc' := 261) dX1_foretold_260 rfl rfl (by decide) ?_
      refine w_lcmp (pc' := 262) dX1_foretold_261 rfl ?_
      -- at 262: .ifCond .ge 9
      try simp (decide := true) only [au_1, nu_2, au_lt, nu_lt, aw_e, nw_e, au_s, au_n, nu_s, nu_n, au_au, nu_nu, au_nu]
      refine w_if_ge (pc' := 265) (tgt := 271) dX1_foretold_262 rfl rfl (fun g1 => ?_) (fun g1 => ?_)
      · have g1 := lCmp_ge.mp g1
        have hle : (fF σ r a s.toNat (b)) ≤ 9223372036854775807 := by
          apply Classical.byContradiction
          intro q
          rw [sat_f q] at g1
          omega
        rw [if_pos hle] at h
        refine w_aload_n (pc' := 272) dX1_foretold_271 rfl rfl ?_
        refine w_mga 33 (pc' := 275) dX1_foretold_272 rfl fX1_82_1 rfl ?_
        refine w_iload (pc' := 277) dX1_foretold_275 rfl rfl ?_
        refine w_mlld (pc' := 278) dX1_foretold_277 rfl rfl (by first | omega | (simp (decide := true) only [au_1, nu_2, au_lt, nu_lt, aw_e, nw_e, au_s, au_n, nu_s, nu_n, au_au, nu_nu, au_nu]; omega)) (by first | omega | (simp (decide := true) only [au_1, nu_2, au_lt, nu_lt, aw_e, nw_e, au_s, au_n, nu_s, nu_n, au_au, nu_nu, au_nu]; omega)) ?_
        -- at 278: .lreturn
        try simp (decide := true) only [au_1, nu_2, au_lt, nu_lt, aw_e, nw_e, au_s, au_n, nu_s, nu_n, au_au, nu_nu, au_nu]
        rw [hfb, sat_t hle]
        refine w_lreturn dX1_foretold_278 rfl ?_
        exact h f g
      · have g1 : ¬ _ := fun q => Int.not_le.mpr g1 (lCmp_ge.mpr q)
        rw [if_neg (fun q => g1 (by rw [sat_t q]; exact hnn))] at h
        refine w_ldc2 (z := -2) (pc' := 268) dX1_foretold_265 rfl q1434 (by decide +kernel) (by decide) ?_
        refine w_goto (tgt := 278) dX1_foretold_268 rfl ?_
        -- at 278: .lreturn
        try simp (decide := true) only [au_1, nu_2, au_lt, nu_lt, aw_e, nw_e, au_s, au_n, nu_s, nu_n, au_au, nu_nu, au_nu]
        refine w_lreturn dX1_foretold_278 rfl ?_
        exact h f g
    | succ j ih =>
      intro s f g x6 x7 x8 hs s0 hf
      have ih := fun f g x6 x7 x8 => ih (s + 1) f g x6 x7 x8 (by omega) (by omega)
      rw [show (s + 1).toNat = s.toNat + 1 by omega] at ih
      have cloop : ∀ (f g : Int → Int) (x6 x7 x8 : Option XV), (∀ k, 0 ≤ k → k < σ.1 5 → g k = sat (fF σ r a (s.toNat + 1) k)) → tvW mX1_foretold (d + 1) K 215 [some (xR mR), some (xI r), some (xI a), some (xI n), some (xI b), some (xI s), x6, x7, x8] [] (ov (au (au σ 33 (f)) 34 (g)) G0) bc bs := by
        intro f g x6 x7 x8 hg
        refine w_iconst (pc' := 216) dX1_foretold_215 rfl (by decide) ?_
        refine w_ist6 (pc' := 218) dX1_foretold_216 rfl rfl ?_
        -- at 218: .iload 6
        try simp (decide := true) only [au_1, nu_2, au_lt, nu_lt, aw_e, nw_e, au_s, au_n, nu_s, nu_n, au_au, nu_nu, au_nu]
        refine up (T := fun k => ∀ f : Int → Int, (∀ k', 0 ≤ k' → k' < k → f k' = g k') → tvW mX1_foretold (d + 1) K 218 [some (xR mR), some (xI r), some (xI a), some (xI n), some (xI b), some (xI s), some (xI k), x7, x8] [] (ov (au (au σ 33 (f)) 34 (g)) G0) bc bs) (σ.1 5) hK1.1 (fun f hf => ?_) (fun k k0 k1 ihk f hf => ?_) f (fun k' a b => by omega)
        · refine w_iload (pc' := 220) dX1_foretold_218 rfl rfl ?_
          refine w_aload_n (pc' := 221) dX1_foretold_220 rfl rfl ?_
          refine w_mgi 5 (pc' := 224) dX1_foretold_221 rfl fX1_128_1 rfl ?_
          -- at 224: .if_icmp .ge 23
          try simp (decide := true) only [au_1, nu_2, au_lt, nu_lt, aw_e, nw_e, au_s, au_n, nu_s, nu_n, au_au, nu_nu, au_nu]
          refine w_icmp_ge (pc' := 227) (tgt := 247) dX1_foretold_224 rfl rfl (fun h_ => ?_) (fun h_ => False.elim (by first | omega | (simp (decide := true) only [au_1, nu_2, au_lt, nu_lt, aw_e, nw_e, au_s, au_n, nu_s, nu_n, au_au, nu_nu, au_nu] at h_; omega)))
          refine w_inc5 (pc' := 250) dX1_foretold_247 rfl rfl ⟨by first | omega | (simp (decide := true) only [au_1, nu_2, au_lt, nu_lt, aw_e, nw_e, au_s, au_n, nu_s, nu_n, au_au, nu_nu, au_nu]; omega), by first | omega | (simp (decide := true) only [au_1, nu_2, au_lt, nu_lt, aw_e, nw_e, au_s, au_n, nu_s, nu_n, au_au, nu_nu, au_nu]; omega)⟩ ?_
          refine w_goto (tgt := 78) dX1_foretold_250 rfl ?_
          -- at 78: .iload 5
          try simp (decide := true) only [au_1, nu_2, au_lt, nu_lt, aw_e, nw_e, au_s, au_n, nu_s, nu_n, au_au, nu_nu, au_nu]
          exact ih f g _ _ _ (fun k k0 k1 => by rw [hf k k0 k1]; exact hg k k0 k1)
        · refine w_iload (pc' := 220) dX1_foretold_218 rfl rfl ?_
          refine w_aload_n (pc' := 221) dX1_foretold_220 rfl rfl ?_
          refine w_mgi 5 (pc' := 224) dX1_foretold_221 rfl fX1_128_1 rfl ?_
          -- at 224: .if_icmp .ge 23
          try simp (decide := true) only [au_1, nu_2, au_lt, nu_lt, aw_e, nw_e, au_s, au_n, nu_s, nu_n, au_au, nu_nu, au_nu]
          refine w_icmp_ge (pc' := 227) (tgt := 247) dX1_foretold_224 rfl rfl (fun h_ => False.elim (by first | omega | (simp (decide := true) only [au_1, nu_2, au_lt, nu_lt, aw_e, nw_e, au_s, au_n, nu_s, nu_n, au_au, nu_nu, au_nu] at h_; omega))) (fun h_ => ?_)
          refine w_aload_n (pc' := 228) dX1_foretold_227 rfl rfl ?_
          refine w_mga 33 (pc' := 231) dX1_foretold_228 rfl fX1_82_1 rfl ?_
          refine w_iload (pc' := 233) dX1_foretold_231 rfl rfl ?_
          refine w_aload_n (pc' := 234) dX1_foretold_233 rfl rfl ?_
          refine w_mga 34 (pc' := 237) dX1_foretold_234 rfl fX1_85_1 rfl ?_
          refine w_iload (pc' := 239) dX1_foretold_237 rfl rfl ?_
          refine w_mlld (pc' := 240) dX1_foretold_239 rfl rfl (by first | omega | (simp (decide := true) only [au_1, nu_2, au_lt, nu_lt, aw_e, nw_e, au_s, au_n, nu_s, nu_n, au_au, nu_nu, au_nu]; omega)) (by first | omega | (simp (decide := true) only [au_1, nu_2, au_lt, nu_lt, aw_e, nw_e, au_s, au_n, nu_s, nu_n, au_au, nu_nu, au_nu]; omega)) ?_
          refine w_aul (pc' := 241) dX1_foretold_240 rfl rfl (by first | omega | (simp (decide := true) only [au_1, nu_2, au_lt, nu_lt, aw_e, nw_e, au_s, au_n, nu_s, nu_n, au_au, nu_nu, au_nu]; omega)) (by first | omega | (simp (decide := true) only [au_1, nu_2, au_lt, nu_lt, aw_e, nw_e, au_s, au_n, nu_s, nu_n, au_au, nu_nu, au_nu]; omega)) ?_
          try simp (decide := true) only [au_1, nu_2, au_lt, nu_lt, aw_e, nw_e, au_s, au_n, nu_s, nu_n, au_au, nu_nu, au_nu]
          refine w_inc6 (pc' := 244) dX1_foretold_241 rfl rfl ⟨by first | omega | (simp (decide := true) only [au_1, nu_2, au_lt, nu_lt, aw_e, nw_e, au_s, au_n, nu_s, nu_n, au_au, nu_nu, au_nu]; omega), by first | omega | (simp (decide := true) only [au_1, nu_2, au_lt, nu_lt, aw_e, nw_e, au_s, au_n, nu_s, nu_n, au_au, nu_nu, au_nu]; omega)⟩ ?_
          refine w_goto (tgt := 218) dX1_foretold_244 rfl ?_
          -- at 218: .iload 6
          try simp (decide := true) only [au_1, nu_2, au_lt, nu_lt, aw_e, nw_e, au_s, au_n, nu_s, nu_n, au_au, nu_nu, au_nu]
          refine ihk _ (fun k' q0 q1 => ?_)
          by_cases e : k' = k
          · rw [e]; exact iset_s
          · rw [iset_n e]; exact hf k' q0 (by omega)
      have kloop : ∀ (g : Int → Int) (x6 x7 x8 : Option XV), (∀ k, 0 ≤ k → k < σ.1 5 → g k = 0) → tvW mX1_foretold (d + 1) K 110 [some (xR mR), some (xI r), some (xI a), some (xI n), some (xI b), some (xI s), x6, x7, x8] [] (ov (au (au σ 33 (f)) 34 (g)) G0) bc bs := by
        intro g x6 x7 x8 hg
        refine w_iconst (pc' := 111) dX1_foretold_110 rfl (by decide) ?_
        refine w_ist6 (pc' := 113) dX1_foretold_111 rfl rfl ?_
        -- at 113: .iload 6
        try simp (decide := true) only [au_1, nu_2, au_lt, nu_lt, aw_e, nw_e, au_s, au_n, nu_s, nu_n, au_au, nu_nu, au_nu]
        refine up (T := fun k => ∀ (g : Int → Int) (x7 x8 : Option XV), (∀ j, 0 ≤ j → j < σ.1 5 → g j = sat (sm (fun k => (fF σ r a s.toNat (k)) * fMn σ r k j 16) k)) → tvW mX1_foretold (d + 1) K 113 [some (xR mR), some (xI r), some (xI a), some (xI n), some (xI b), some (xI s), some (xI k), x7, x8] [] (ov (au (au σ 33 (f)) 34 (g)) G0) bc bs) (σ.1 5) hK1.1 (fun g x7 x8 hg => ?_) (fun k k0 k1 ihk g x7 x8 hg => ?_) g _ _ (fun j j0 j1 => by rw [hg j j0 j1, sm_0]; rfl)
        · refine w_iload (pc' := 115) dX1_foretold_113 rfl rfl ?_
          refine w_aload_n (pc' := 116) dX1_foretold_115 rfl rfl ?_
          refine w_mgi 5 (pc' := 119) dX1_foretold_116 rfl fX1_128_1 rfl ?_
          -- at 119: .if_icmp .ge 96
          try simp (decide := true) only [au_1, nu_2, au_lt, nu_lt, aw_e, nw_e, au_s, au_n, nu_s, nu_n, au_au, nu_nu, au_nu]
          refine w_icmp_ge (pc' := 122) (tgt := 215) dX1_foretold_119 rfl rfl (fun h_ => ?_) (fun h_ => False.elim (by first | omega | (simp (decide := true) only [au_1, nu_2, au_lt, nu_lt, aw_e, nw_e, au_s, au_n, nu_s, nu_n, au_au, nu_nu, au_nu] at h_; omega)))
          exact cloop f g _ _ _ hg
        · have hfk := hf k k0 k1
          have hnn := fF_r (σ := σ) (r := r) (a := a) s.toNat k
          have hS : ∀ j, 0 ≤ sm (fun k => (fF σ r a s.toNat (k)) * fMn σ r k j 16) k := fun j => sm_nn (fun i _ _ => Int.mul_nonneg (fF_r _ i) (fMn_r (by omega)))
          refine w_iload (pc' := 115) dX1_foretold_113 rfl rfl ?_
          refine w_aload_n (pc' := 116) dX1_foretold_115 rfl rfl ?_
          refine w_mgi 5 (pc' := 119) dX1_foretold_116 rfl fX1_128_1 rfl ?_
          -- at 119: .if_icmp .ge 96
          try simp (decide := true) only [au_1, nu_2, au_lt, nu_lt, aw_e, nw_e, au_s, au_n, nu_s, nu_n, au_au, nu_nu, au_nu]
          refine w_icmp_ge (pc' := 122) (tgt := 215) dX1_foretold_119 rfl rfl (fun h_ => False.elim (by first | omega | (simp (decide := true) only [au_1, nu_2, au_lt, nu_lt, aw_e, nw_e, au_s, au_n, nu_s, nu_n, au_au, nu_nu, au_nu] at h_; omega))) (fun h_ => ?_)
          refine w_aload_n (pc' := 123) dX1_foretold_122 rfl rfl ?_
          refine w_mga 33 (pc' := 126) dX1_foretold_123 rfl fX1_82_1 rfl ?_
          refine w_iload (pc' := 128) dX1_foretold_126 rfl rfl ?_
          refine w_mlld (pc' := 129) dX1_foretold_128 rfl rfl (by first | omega | (simp (decide := true) only [au_1, nu_2, au_lt, nu_lt, aw_e, nw_e, au_s, au_n, nu_s, nu_n, au_au, nu_nu, au_nu]; omega)) (by first | omega | (simp (decide := true) only [au_1, nu_2, au_lt, nu_lt, aw_e, nw_e, au_s, au_n, nu_s, nu_n, au_au, nu_nu, au_nu]; omega)) ?_
          -- at 129: .lconst 0
          try simp (decide := true) only [au_1, nu_2, au_lt, nu_lt, aw_e, nw_e, au_s, au_n, nu_s, nu_n, au_au, nu_nu, au_nu]
          rw [hfk]
          refine w_lconst (z := 0) (pc' := 130) dX1_foretold_129 rfl rfl (by decide) ?_
          refine w_lcmp (pc' := 131) dX1_foretold_130 rfl ?_
          -- at 131: .ifCond .ne 6
          try simp (decide := true) only [au_1, nu_2, au_lt, nu_lt, aw_e, nw_e, au_s, au_n, nu_s, nu_n, au_au, nu_nu, au_nu]
          refine w_if_ne (pc' := 134) (tgt := 137) dX1_foretold_131 rfl rfl (fun g1 => ?_) (fun g1 => ?_)
          · have g1 : sat (fF σ r a s.toNat (k)) ≠ 0 := fun q => g1 (lCmp_eq.mpr q)
            refine w_iconst (pc' := 138) dX1_foretold_137 rfl (by decide) ?_
            refine w_ist7 (pc' := 140) dX1_foretold_138 rfl rfl ?_
            -- at 140: .iload 7
            try simp (decide := true) only [au_1, nu_2, au_lt, nu_lt, aw_e, nw_e, au_s, au_n, nu_s, nu_n, au_au, nu_nu, au_nu]
            refine up (T := fun m => ∀ (g : Int → Int) (x8 : Option XV), (∀ j, 0 ≤ j → j < σ.1 5 → g j = sat (sm (fun k => (fF σ r a s.toNat (k)) * fMn σ r k j 16) k + (fF σ r a s.toNat (k)) * fMn σ r k j m)) → tvW mX1_foretold (d + 1) K 140 [some (xR mR), some (xI r), some (xI a), some (xI n), some (xI b), some (xI s), some (xI k), some (xI m), x8] [] (ov (au (au σ 33 (f)) 34 (g)) G0) bc bs) (a := 0) 16 (by omega) (fun g x8 hg => ?_) (fun m m0 m1 ihm g x8 hg => ?_) g _ (fun j j0 j1 => by rw [hg j j0 j1, show fMn σ r k j 0 = 0 from rfl, Int.mul_zero, Int.add_zero])
            · refine w_iload (pc' := 142) dX1_foretold_140 rfl rfl ?_
              refine w_bipush (pc' := 144) dX1_foretold_142 rfl (by decide +kernel) (by decide) ?_
              -- at 144: .if_icmp .ge 65
              try simp (decide := true) only [au_1, nu_2, au_lt, nu_lt, aw_e, nw_e, au_s, au_n, nu_s, nu_n, au_au, nu_nu, au_nu]
              refine w_icmp_ge (pc' := 147) (tgt := 209) dX1_foretold_144 rfl rfl (fun h_ => ?_) (fun h_ => False.elim (by first | omega | (simp (decide := true) only [au_1, nu_2, au_lt, nu_lt, aw_e, nw_e, au_s, au_n, nu_s, nu_n, au_au, nu_nu, au_nu] at h_; omega)))
              refine w_inc6 (pc' := 212) dX1_foretold_209 rfl rfl ⟨by first | omega | (simp (decide := true) only [au_1, nu_2, au_lt, nu_lt, aw_e, nw_e, au_s, au_n, nu_s, nu_n, au_au, nu_nu, au_nu]; omega), by first | omega | (simp (decide := true) only [au_1, nu_2, au_lt, nu_lt, aw_e, nw_e, au_s, au_n, nu_s, nu_n, au_au, nu_nu, au_nu]; omega)⟩ ?_
              refine w_goto (tgt := 113) dX1_foretold_212 rfl ?_
              -- at 113: .iload 6
              try simp (decide := true) only [au_1, nu_2, au_lt, nu_lt, aw_e, nw_e, au_s, au_n, nu_s, nu_n, au_au, nu_nu, au_nu]
              exact ihk g _ _ (fun j j0 j1 => by rw [hg j j0 j1, sm_s k0])
            · have hc := hblk k m k0 k1 m0 m1
              have hM : ∀ j, fMn σ r k j (m + 1) = fMn σ r k j m + (if σ.2 28 (640 * r + 16 * k + m) ≠ 0 ∧ kOf (σ.2 28 (640 * r + 16 * k + m)) = j then 1 else 0) := fun j => sm_s m0
              generalize hcd : σ.2 28 (640 * r + 16 * k + m) = c at *
              have hMr := fun j => fMn_r (σ := σ) (r := r) (k := k) (j := j) m0
              refine w_iload (pc' := 142) dX1_foretold_140 rfl rfl ?_
              refine w_bipush (pc' := 144) dX1_foretold_142 rfl (by decide +kernel) (by decide) ?_
              -- at 144: .if_icmp .ge 65
              try simp (decide := true) only [au_1, nu_2, au_lt, nu_lt, aw_e, nw_e, au_s, au_n, nu_s, nu_n, au_au, nu_nu, au_nu]
              refine w_icmp_ge (pc' := 147) (tgt := 209) dX1_foretold_144 rfl rfl (fun h_ => False.elim (by first | omega | (simp (decide := true) only [au_1, nu_2, au_lt, nu_lt, aw_e, nw_e, au_s, au_n, nu_s, nu_n, au_au, nu_nu, au_nu] at h_; omega))) (fun h_ => ?_)
              refine w_aload_n (pc' := 148) dX1_foretold_147 rfl rfl ?_
              refine w_mga 28 (pc' := 151) dX1_foretold_148 rfl fX1_70_1 rfl ?_
              refine w_sipush (pc' := 154) dX1_foretold_151 rfl (by decide +kernel) (by decide) ?_
              refine w_iload_n (pc' := 155) dX1_foretold_154 rfl rfl ?_
              refine w_imul (pc' := 156) dX1_foretold_155 rfl ⟨by first | omega | (simp (decide := true) only [au_1, nu_2, au_lt, nu_lt, aw_e, nw_e, au_s, au_n, nu_s, nu_n, au_au, nu_nu, au_nu]; omega), by first | omega | (simp (decide := true) only [au_1, nu_2, au_lt, nu_lt, aw_e, nw_e, au_s, au_n, nu_s, nu_n, au_au, nu_nu, au_nu]; omega)⟩ ?_
              refine w_bipush (pc' := 158) dX1_foretold_156 rfl (by decide +kernel) (by decide) ?_
              refine w_iload (pc' := 160) dX1_foretold_158 rfl rfl ?_
              refine w_imul (pc' := 161) dX1_foretold_160 rfl ⟨by first | omega | (simp (decide := true) only [au_1, nu_2, au_lt, nu_lt, aw_e, nw_e, au_s, au_n, nu_s, nu_n, au_au, nu_nu, au_nu]; omega), by first | omega | (simp (decide := true) only [au_1, nu_2, au_lt, nu_lt, aw_e, nw_e, au_s, au_n, nu_s, nu_n, au_au, nu_nu, au_nu]; omega)⟩ ?_
              refine w_iadd (pc' := 162) dX1_foretold_161 rfl ⟨by first | omega | (simp (decide := true) only [au_1, nu_2, au_lt, nu_lt, aw_e, nw_e, au_s, au_n, nu_s, nu_n, au_au, nu_nu, au_nu]; omega), by first | omega | (simp (decide := true) only [au_1, nu_2, au_lt, nu_lt, aw_e, nw_e, au_s, au_n, nu_s, nu_n, au_au, nu_nu, au_nu]; omega)⟩ ?_
              refine w_iload (pc' := 164) dX1_foretold_162 rfl rfl ?_
              refine w_iadd (pc' := 165) dX1_foretold_164 rfl ⟨by first | omega | (simp (decide := true) only [au_1, nu_2, au_lt, nu_lt, aw_e, nw_e, au_s, au_n, nu_s, nu_n, au_au, nu_nu, au_nu]; omega), by first | omega | (simp (decide := true) only [au_1, nu_2, au_lt, nu_lt, aw_e, nw_e, au_s, au_n, nu_s, nu_n, au_au, nu_nu, au_nu]; omega)⟩ ?_
              refine w_mild (pc' := 166) dX1_foretold_165 rfl rfl (by first | omega | (simp (decide := true) only [au_1, nu_2, au_lt, nu_lt, aw_e, nw_e, au_s, au_n, nu_s, nu_n, au_au, nu_nu, au_nu]; omega)) (by first | omega | (simp (decide := true) only [au_1, nu_2, au_lt, nu_lt, aw_e, nw_e, au_s, au_n, nu_s, nu_n, au_au, nu_nu, au_nu]; omega)) ?_
              -- at 166: .istore 8
              try simp (decide := true) only [au_1, nu_2, au_lt, nu_lt, aw_e, nw_e, au_s, au_n, nu_s, nu_n, au_au, nu_nu, au_nu]
              rw [hcd]
              refine w_ist8 (pc' := 168) dX1_foretold_166 rfl rfl ?_
              refine w_iload (pc' := 170) dX1_foretold_168 rfl rfl ?_
              -- at 170: .ifCond .eq 33
              try simp (decide := true) only [au_1, nu_2, au_lt, nu_lt, aw_e, nw_e, au_s, au_n, nu_s, nu_n, au_au, nu_nu, au_nu]
              refine w_if_eq (pc' := 173) (tgt := 203) dX1_foretold_170 rfl rfl (fun g2 => ?_) (fun g2 => ?_)
              · refine w_inc7 (pc' := 206) dX1_foretold_203 rfl rfl ⟨by first | omega | (simp (decide := true) only [au_1, nu_2, au_lt, nu_lt, aw_e, nw_e, au_s, au_n, nu_s, nu_n, au_au, nu_nu, au_nu]; omega), by first | omega | (simp (decide := true) only [au_1, nu_2, au_lt, nu_lt, aw_e, nw_e, au_s, au_n, nu_s, nu_n, au_au, nu_nu, au_nu]; omega)⟩ ?_
                refine w_goto (tgt := 140) dX1_foretold_206 rfl ?_
                -- at 140: .iload 7
                try simp (decide := true) only [au_1, nu_2, au_lt, nu_lt, aw_e, nw_e, au_s, au_n, nu_s, nu_n, au_au, nu_nu, au_nu]
                exact ihm g _ (fun j j0 j1 => by rw [hg j j0 j1, hM j, if_neg (fun z => z.1 g2), Int.add_zero])
              · have hk := isC_k hc g2
                refine w_aload_n (pc' := 174) dX1_foretold_173 rfl rfl ?_
                refine w_mga 34 (pc' := 177) dX1_foretold_174 rfl fX1_85_1 rfl ?_
                refine w_iload (pc' := 179) dX1_foretold_177 rfl rfl ?_
                -- at 179: .invokestatic 156
                try simp (decide := true) only [au_1, nu_2, au_lt, nu_lt, aw_e, nw_e, au_s, au_n, nu_s, nu_n, au_au, nu_nu, au_nu]
                refine w_callS1 (pc' := 182) (mc := 0) (ms := 0) dX1_foretold_179 rfl tX1_kindOf q1352 q1351 rfl (Nat.le_of_ble_eq_true rfl) (Nat.le_of_ble_eq_true rfl) ?_
                refine c_X1_kindOf ?_
                refine w_p1 ?_
                refine w_aload_n (pc' := 183) dX1_foretold_182 rfl rfl ?_
                refine w_mga 34 (pc' := 186) dX1_foretold_183 rfl fX1_85_1 rfl ?_
                refine w_iload (pc' := 188) dX1_foretold_186 rfl rfl ?_
                -- at 188: .invokestatic 156
                try simp (decide := true) only [au_1, nu_2, au_lt, nu_lt, aw_e, nw_e, au_s, au_n, nu_s, nu_n, au_au, nu_nu, au_nu]
                refine w_callS1 (pc' := 191) (mc := 0) (ms := 0) dX1_foretold_188 rfl tX1_kindOf q1352 q1351 rfl (Nat.le_of_ble_eq_true rfl) (Nat.le_of_ble_eq_true rfl) ?_
                refine c_X1_kindOf ?_
                refine w_p1 ?_
                refine w_mlld (pc' := 192) dX1_foretold_191 rfl rfl (by first | omega | (simp (decide := true) only [au_1, nu_2, au_lt, nu_lt, aw_e, nw_e, au_s, au_n, nu_s, nu_n, au_au, nu_nu, au_nu]; omega)) (by first | omega | (simp (decide := true) only [au_1, nu_2, au_lt, nu_lt, aw_e, nw_e, au_s, au_n, nu_s, nu_n, au_au, nu_nu, au_nu]; omega)) ?_
                -- at 192: .aload_n 0
                try simp (decide := true) only [au_1, nu_2, au_lt, nu_lt, aw_e, nw_e, au_s, au_n, nu_s, nu_n, au_au, nu_nu, au_nu]
                rw [hg (kOf c) hk.1 hk.2]
                refine w_aload_n (pc' := 193) dX1_foretold_192 rfl rfl ?_
                refine w_mga 33 (pc' := 196) dX1_foretold_193 rfl fX1_82_1 rfl ?_
                refine w_iload (pc' := 198) dX1_foretold_196 rfl rfl ?_
                refine w_mlld (pc' := 199) dX1_foretold_198 rfl rfl (by first | omega | (simp (decide := true) only [au_1, nu_2, au_lt, nu_lt, aw_e, nw_e, au_s, au_n, nu_s, nu_n, au_au, nu_nu, au_nu]; omega)) (by first | omega | (simp (decide := true) only [au_1, nu_2, au_lt, nu_lt, aw_e, nw_e, au_s, au_n, nu_s, nu_n, au_au, nu_nu, au_nu]; omega)) ?_
                -- at 199: .invokestatic 257
                try simp (decide := true) only [au_1, nu_2, au_lt, nu_lt, aw_e, nw_e, au_s, au_n, nu_s, nu_n, au_au, nu_nu, au_nu]
                rw [hfk]
                refine w_callS2 (pc' := 202) (mc := 0) (ms := 0) dX1_foretold_199 rfl tX1_sum q1432 q1431 rfl (Nat.le_of_ble_eq_true rfl) (Nat.le_of_ble_eq_true rfl) ?_
                refine c_X1_sum (Int.add_nonneg (hS _) (Int.mul_nonneg hnn (hMr _))) hnn ?_
                refine w_p1 ?_
                refine w_aul (pc' := 203) dX1_foretold_202 rfl rfl (by first | omega | (simp (decide := true) only [au_1, nu_2, au_lt, nu_lt, aw_e, nw_e, au_s, au_n, nu_s, nu_n, au_au, nu_nu, au_nu]; omega)) (by first | omega | (simp (decide := true) only [au_1, nu_2, au_lt, nu_lt, aw_e, nw_e, au_s, au_n, nu_s, nu_n, au_au, nu_nu, au_nu]; omega)) ?_
                try simp (decide := true) only [au_1, nu_2, au_lt, nu_lt, aw_e, nw_e, au_s, au_n, nu_s, nu_n, au_au, nu_nu, au_nu]
                refine w_inc7 (pc' := 206) dX1_foretold_203 rfl rfl ⟨by first | omega | (simp (decide := true) only [au_1, nu_2, au_lt, nu_lt, aw_e, nw_e, au_s, au_n, nu_s, nu_n, au_au, nu_nu, au_nu]; omega), by first | omega | (simp (decide := true) only [au_1, nu_2, au_lt, nu_lt, aw_e, nw_e, au_s, au_n, nu_s, nu_n, au_au, nu_nu, au_nu]; omega)⟩ ?_
                refine w_goto (tgt := 140) dX1_foretold_206 rfl ?_
                -- at 140: .iload 7
                try simp (decide := true) only [au_1, nu_2, au_lt, nu_lt, aw_e, nw_e, au_s, au_n, nu_s, nu_n, au_au, nu_nu, au_nu]
                refine ihm _ _ (fun j j0 j1 => ?_)
                by_cases e : j = kOf c
                · rw [e, iset_s, hM (kOf c), if_pos ⟨g2, rfl⟩, Int.mul_add, Int.mul_one, Int.add_assoc]
                · rw [iset_n e, hg j j0 j1, hM j, if_neg (fun z => e z.2.symm), Int.add_zero]
          · have g1 := lCmp_eq.mp g1
            have hF0 : (fF σ r a s.toNat (k)) = 0 := by
              by_cases q : (fF σ r a s.toNat (k)) ≤ 9223372036854775807
              · rw [sat_t q] at g1; exact g1
              · rw [sat_f q] at g1; omega
            refine w_goto (tgt := 209) dX1_foretold_134 rfl ?_
            refine w_inc6 (pc' := 212) dX1_foretold_209 rfl rfl ⟨by first | omega | (simp (decide := true) only [au_1, nu_2, au_lt, nu_lt, aw_e, nw_e, au_s, au_n, nu_s, nu_n, au_au, nu_nu, au_nu]; omega), by first | omega | (simp (decide := true) only [au_1, nu_2, au_lt, nu_lt, aw_e, nw_e, au_s, au_n, nu_s, nu_n, au_au, nu_nu, au_nu]; omega)⟩ ?_
            refine w_goto (tgt := 113) dX1_foretold_212 rfl ?_
            -- at 113: .iload 6
            try simp (decide := true) only [au_1, nu_2, au_lt, nu_lt, aw_e, nw_e, au_s, au_n, nu_s, nu_n, au_au, nu_nu, au_nu]
            exact ihk g _ _ (fun j j0 j1 => by rw [hg j j0 j1, sm_s k0, hF0, Int.zero_mul, Int.add_zero])
      refine w_iload (pc' := 80) dX1_foretold_78 rfl rfl ?_
      refine w_iload_n (pc' := 81) dX1_foretold_80 rfl rfl ?_
      -- at 81: .if_icmp .ge 172
      try simp (decide := true) only [au_1, nu_2, au_lt, nu_lt, aw_e, nw_e, au_s, au_n, nu_s, nu_n, au_au, nu_nu, au_nu]
      refine w_icmp_ge (pc' := 84) (tgt := 253) dX1_foretold_81 rfl rfl (fun h_ => False.elim (by first | omega | (simp (decide := true) only [au_1, nu_2, au_lt, nu_lt, aw_e, nw_e, au_s, au_n, nu_s, nu_n, au_au, nu_nu, au_nu] at h_; omega))) (fun h_ => ?_)
      refine w_iconst (pc' := 85) dX1_foretold_84 rfl (by decide) ?_
      refine w_ist6 (pc' := 87) dX1_foretold_85 rfl rfl ?_
      -- at 87: .iload 6
      try simp (decide := true) only [au_1, nu_2, au_lt, nu_lt, aw_e, nw_e, au_s, au_n, nu_s, nu_n, au_au, nu_nu, au_nu]
      refine up (T := fun k => ∀ g : Int → Int, (∀ k', 0 ≤ k' → k' < k → g k' = 0) → tvW mX1_foretold (d + 1) K 87 [some (xR mR), some (xI r), some (xI a), some (xI n), some (xI b), some (xI s), some (xI k), x7, x8] [] (ov (au (au σ 33 (f)) 34 (g)) G0) bc bs) (σ.1 5) hK1.1 (fun g hg => ?_) (fun k k0 k1 ihk g hg => ?_) g (fun k' a b => by omega)
      · refine w_iload (pc' := 89) dX1_foretold_87 rfl rfl ?_
        refine w_aload_n (pc' := 90) dX1_foretold_89 rfl rfl ?_
        refine w_mgi 5 (pc' := 93) dX1_foretold_90 rfl fX1_128_1 rfl ?_
        -- at 93: .if_icmp .ge 17
        try simp (decide := true) only [au_1, nu_2, au_lt, nu_lt, aw_e, nw_e, au_s, au_n, nu_s, nu_n, au_au, nu_nu, au_nu]
        refine w_icmp_ge (pc' := 96) (tgt := 110) dX1_foretold_93 rfl rfl (fun h_ => ?_) (fun h_ => False.elim (by first | omega | (simp (decide := true) only [au_1, nu_2, au_lt, nu_lt, aw_e, nw_e, au_s, au_n, nu_s, nu_n, au_au, nu_nu, au_nu] at h_; omega)))
        exact kloop g _ _ _ hg
      · refine w_iload (pc' := 89) dX1_foretold_87 rfl rfl ?_
        refine w_aload_n (pc' := 90) dX1_foretold_89 rfl rfl ?_
        refine w_mgi 5 (pc' := 93) dX1_foretold_90 rfl fX1_128_1 rfl ?_
        -- at 93: .if_icmp .ge 17
        try simp (decide := true) only [au_1, nu_2, au_lt, nu_lt, aw_e, nw_e, au_s, au_n, nu_s, nu_n, au_au, nu_nu, au_nu]
        refine w_icmp_ge (pc' := 96) (tgt := 110) dX1_foretold_93 rfl rfl (fun h_ => False.elim (by first | omega | (simp (decide := true) only [au_1, nu_2, au_lt, nu_lt, aw_e, nw_e, au_s, au_n, nu_s, nu_n, au_au, nu_nu, au_nu] at h_; omega))) (fun h_ => ?_)
        refine w_aload_n (pc' := 97) dX1_foretold_96 rfl rfl ?_
        refine w_mga 34 (pc' := 100) dX1_foretold_97 rfl fX1_85_1 rfl ?_
        refine w_iload (pc' := 102) dX1_foretold_100 rfl rfl ?_
        refine w_lconst (z := 0) (pc' := 103) dX1_foretold_102 rfl rfl (by decide) ?_
        refine w_aul (pc' := 104) dX1_foretold_103 rfl rfl (by first | omega | (simp (decide := true) only [au_1, nu_2, au_lt, nu_lt, aw_e, nw_e, au_s, au_n, nu_s, nu_n, au_au, nu_nu, au_nu]; omega)) (by first | omega | (simp (decide := true) only [au_1, nu_2, au_lt, nu_lt, aw_e, nw_e, au_s, au_n, nu_s, nu_n, au_au, nu_nu, au_nu]; omega)) ?_
        try simp (decide := true) only [au_1, nu_2, au_lt, nu_lt, aw_e, nw_e, au_s, au_n, nu_s, nu_n, au_au, nu_nu, au_nu]
        refine w_inc6 (pc' := 107) dX1_foretold_104 rfl rfl ⟨by first | omega | (simp (decide := true) only [au_1, nu_2, au_lt, nu_lt, aw_e, nw_e, au_s, au_n, nu_s, nu_n, au_au, nu_nu, au_nu]; omega), by first | omega | (simp (decide := true) only [au_1, nu_2, au_lt, nu_lt, aw_e, nw_e, au_s, au_n, nu_s, nu_n, au_au, nu_nu, au_nu]; omega)⟩ ?_
        refine w_goto (tgt := 87) dX1_foretold_107 rfl ?_
        -- at 87: .iload 6
        try simp (decide := true) only [au_1, nu_2, au_lt, nu_lt, aw_e, nw_e, au_s, au_n, nu_s, nu_n, au_au, nu_nu, au_nu]
        refine ihk _ (fun k' q0 q1 => ?_)
        by_cases e : k' = k
        · rw [e]; exact iset_s
        · rw [iset_n e]; exact hg k' q0 (by omega)
  refine w_iconst (pc' := 40) dX1_foretold_39 rfl (by decide) ?_
  refine w_ist5 (pc' := 42) dX1_foretold_40 rfl rfl ?_
  -- at 42: .iload 5
  try simp (decide := true) only [au_1, nu_2, au_lt, nu_lt, aw_e, nw_e, au_s, au_n, nu_s, nu_n, au_au, nu_nu, au_nu]
  refine w_ms (τ := (au (au σ 33 (σ.2 33)) 34 (σ.2 34))) e0.symm ?_
  refine up (T := fun k => ∀ f : Int → Int, (∀ k', 0 ≤ k' → k' < k → f k' = if k' = a then 1 else 0) → tvW mX1_foretold (d + 1) K 42 [some (xR mR), some (xI r), some (xI a), some (xI n), some (xI b), some (xI k), none, none, none] [] (ov (au (au σ 33 (f)) 34 (σ.2 34)) G0) bc bs) (σ.1 5) hK1.1 (fun f hf => ?_) (fun k k0 k1 ih f hf => ?_) _ (fun k' a b => by omega)
  · refine w_iload (pc' := 44) dX1_foretold_42 rfl rfl ?_
    refine w_aload_n (pc' := 45) dX1_foretold_44 rfl rfl ?_
    refine w_mgi 5 (pc' := 48) dX1_foretold_45 rfl fX1_128_1 rfl ?_
    -- at 48: .if_icmp .ge 27
    try simp (decide := true) only [au_1, nu_2, au_lt, nu_lt, aw_e, nw_e, au_s, au_n, nu_s, nu_n, au_au, nu_nu, au_nu]
    refine w_icmp_ge (pc' := 51) (tgt := 75) dX1_foretold_48 rfl rfl (fun h_ => ?_) (fun h_ => False.elim (by first | omega | (simp (decide := true) only [au_1, nu_2, au_lt, nu_lt, aw_e, nw_e, au_s, au_n, nu_s, nu_n, au_au, nu_nu, au_nu] at h_; omega)))
    refine w_iconst (pc' := 76) dX1_foretold_75 rfl (by decide) ?_
    refine w_ist5 (pc' := 78) dX1_foretold_76 rfl rfl ?_
    -- at 78: .iload 5
    try simp (decide := true) only [au_1, nu_2, au_lt, nu_lt, aw_e, nw_e, au_s, au_n, nu_s, nu_n, au_au, nu_nu, au_nu]
    refine steps n.toNat 0 f (σ.2 34) _ _ _ (by omega) (by omega) (fun k k0 k1 => ?_)
    rw [hf k k0 k1]
    show _ = sat (if k = a then 1 else 0)
    split <;> rfl
  · have nx : ∀ v, v = (if k = a then 1 else 0) → ∀ k', 0 ≤ k' → k' < k + 1 → iset f k v k' = if k' = a then 1 else 0 := by
      intro v hv k' q0 q1
      by_cases e : k' = k
      · rw [e, iset_s, hv]
      · rw [iset_n e]; exact hf k' q0 (by omega)
    refine w_iload (pc' := 44) dX1_foretold_42 rfl rfl ?_
    refine w_aload_n (pc' := 45) dX1_foretold_44 rfl rfl ?_
    refine w_mgi 5 (pc' := 48) dX1_foretold_45 rfl fX1_128_1 rfl ?_
    -- at 48: .if_icmp .ge 27
    try simp (decide := true) only [au_1, nu_2, au_lt, nu_lt, aw_e, nw_e, au_s, au_n, nu_s, nu_n, au_au, nu_nu, au_nu]
    refine w_icmp_ge (pc' := 51) (tgt := 75) dX1_foretold_48 rfl rfl (fun h_ => False.elim (by first | omega | (simp (decide := true) only [au_1, nu_2, au_lt, nu_lt, aw_e, nw_e, au_s, au_n, nu_s, nu_n, au_au, nu_nu, au_nu] at h_; omega))) (fun h_ => ?_)
    refine w_aload_n (pc' := 52) dX1_foretold_51 rfl rfl ?_
    refine w_mga 33 (pc' := 55) dX1_foretold_52 rfl fX1_82_1 rfl ?_
    refine w_iload (pc' := 57) dX1_foretold_55 rfl rfl ?_
    refine w_iload (pc' := 59) dX1_foretold_57 rfl rfl ?_
    refine w_iload_n (pc' := 60) dX1_foretold_59 rfl rfl ?_
    -- at 60: .if_icmp .ne 7
    try simp (decide := true) only [au_1, nu_2, au_lt, nu_lt, aw_e, nw_e, au_s, au_n, nu_s, nu_n, au_au, nu_nu, au_nu]
    refine w_icmp_ne (pc' := 63) (tgt := 67) dX1_foretold_60 rfl rfl (fun g => ?_) (fun g => ?_)
    · refine w_lconst (z := 0) (pc' := 68) dX1_foretold_67 rfl rfl (by decide) ?_
      refine w_aul (pc' := 69) dX1_foretold_68 rfl rfl (by first | omega | (simp (decide := true) only [au_1, nu_2, au_lt, nu_lt, aw_e, nw_e, au_s, au_n, nu_s, nu_n, au_au, nu_nu, au_nu]; omega)) (by first | omega | (simp (decide := true) only [au_1, nu_2, au_lt, nu_lt, aw_e, nw_e, au_s, au_n, nu_s, nu_n, au_au, nu_nu, au_nu]; omega)) ?_
      try simp (decide := true) only [au_1, nu_2, au_lt, nu_lt, aw_e, nw_e, au_s, au_n, nu_s, nu_n, au_au, nu_nu, au_nu]
      refine w_inc5 (pc' := 72) dX1_foretold_69 rfl rfl ⟨by first | omega | (simp (decide := true) only [au_1, nu_2, au_lt, nu_lt, aw_e, nw_e, au_s, au_n, nu_s, nu_n, au_au, nu_nu, au_nu]; omega), by first | omega | (simp (decide := true) only [au_1, nu_2, au_lt, nu_lt, aw_e, nw_e, au_s, au_n, nu_s, nu_n, au_au, nu_nu, au_nu]; omega)⟩ ?_
      refine w_goto (tgt := 42) dX1_foretold_72 rfl ?_
      -- at 42: .iload 5
      try simp (decide := true) only [au_1, nu_2, au_lt, nu_lt, aw_e, nw_e, au_s, au_n, nu_s, nu_n, au_au, nu_nu, au_nu]
      exact ih _ (nx 0 (by rw [if_neg g]))
    · refine w_lconst (z := 1) (pc' := 64) dX1_foretold_63 rfl rfl (by decide) ?_
      refine w_goto (tgt := 68) dX1_foretold_64 rfl ?_
      refine w_aul (pc' := 69) dX1_foretold_68 rfl rfl (by first | omega | (simp (decide := true) only [au_1, nu_2, au_lt, nu_lt, aw_e, nw_e, au_s, au_n, nu_s, nu_n, au_au, nu_nu, au_nu]; omega)) (by first | omega | (simp (decide := true) only [au_1, nu_2, au_lt, nu_lt, aw_e, nw_e, au_s, au_n, nu_s, nu_n, au_au, nu_nu, au_nu]; omega)) ?_
      try simp (decide := true) only [au_1, nu_2, au_lt, nu_lt, aw_e, nw_e, au_s, au_n, nu_s, nu_n, au_au, nu_nu, au_nu]
      refine w_inc5 (pc' := 72) dX1_foretold_69 rfl rfl ⟨by first | omega | (simp (decide := true) only [au_1, nu_2, au_lt, nu_lt, aw_e, nw_e, au_s, au_n, nu_s, nu_n, au_au, nu_nu, au_nu]; omega), by first | omega | (simp (decide := true) only [au_1, nu_2, au_lt, nu_lt, aw_e, nw_e, au_s, au_n, nu_s, nu_n, au_au, nu_nu, au_nu]; omega)⟩ ?_
      refine w_goto (tgt := 42) dX1_foretold_72 rfl ?_
      -- at 42: .iload 5
      try simp (decide := true) only [au_1, nu_2, au_lt, nu_lt, aw_e, nw_e, au_s, au_n, nu_s, nu_n, au_au, nu_nu, au_nu]
      exact ih _ (nx 1 (by rw [if_pos g]))
end
