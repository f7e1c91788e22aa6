set_option maxRecDepth 10000
/-- the cells of the other side that are there ahead of cell (i, k), place n of its block -/
def grD (σ : MS) (r s : Int) (P : GP) (i k n : Int) (f : Int → Int) : Prop := ∀ i' a k' b, 0 ≤ i' → 0 ≤ a → a < (σ.2 26 r) → 0 ≤ k' → k' < P.1 i' → 0 ≤ b → b < (σ.2 27 r) → (i' < i ∨ i' = i ∧ (k' < k ∨ k' = k ∧ a * (σ.2 27 r) + b < n)) → f (60 * (60 * (1 - s) + ((σ.2 26 r) * i' + a)) + ((σ.2 27 r) * k' + b)) = blk σ r (P.2.2 i' k') a b
def grL (σ : MS) (r s : Int) (P : GP) (i a0 : Int) (g h : Int → Int) : Prop := ∀ i' a, 0 ≤ i' → 0 ≤ a → a < (σ.2 26 r) → (i' < i ∨ i' = i ∧ a < a0) → g (60 * (1 - s) + ((σ.2 26 r) * i' + a)) = P.1 i' * (σ.2 27 r) ∧ h (60 * (1 - s) + ((σ.2 26 r) * i' + a)) = P.2.1 i' * (σ.2 27 r)
section
variable {d : Nat} {K : Option XV → GH → Prop} {G0 G : GH} {bc bs : Nat} {σ : MS} {M : tv_M} {pc : Nat} {L : List (Option XV)} {st : List XV}
theorem c_X1_grown {r s m : Int} {P : GP} {f g h : Int → Int} {x y : Int} (hK : kok σ) (hQ : qok σ) (hr : 0 ≤ r ∧ r < σ.1 29) (hs : s = 0 ∨ s = 1) (hm : 0 ≤ m ∧ m ≤ 60) (hP : gpok σ m P) (hrep : rep s m P f g h)
    (h1 : okS σ r m P → ∀ f g h x y, rep (1 - s) (m * (σ.2 26 r)) (gpS σ r P) f g h → K (some (xI 1)) (ov (nu (nu (au (au (au σ 30 (f)) 31 (g)) 32 (h)) 18 (x)) 19 (y)) G0)) (h0 : ¬ okS σ r m P → ∀ f g h x y, K (some (xI 0)) (ov (nu (nu (au (au (au σ 30 (f)) 31 (g)) 32 (h)) 18 (x)) 19 (y)) G0)) :
    tvW mX1_grown (d + 3) K 0 [some (xR mR), some (xI r), some (xI s), some (xI m), none, none, none, none, none, none, none, none, none] [] (ov (nu (nu (au (au (au σ 30 (f)) 31 (g)) 32 (h)) 18 (x)) 19 (y)) G0) bc bs := by
  have hq1 := hQ.1
  obtain ⟨hR, hC, hB⟩ := hQ.2 r hr.1 hr.2
  have hRC := mlr (a := (σ.2 26 r)) (b := (σ.2 27 r)) (A := 4) (B := 4) (by omega) (by omega) (by omega) (by omega)
  have hmR := mlr (a := m) (b := (σ.2 26 r)) (A := 60) (B := 4) (by omega) (by omega) (by omega) (by omega)
  unfold okS at h0 h1
  refine w_aload_n (pc' := 1) dX1_grown_0 rfl rfl ?_
  refine w_mga 26 (pc' := 4) dX1_grown_1 rfl fX1_64_1 rfl ?_
  refine w_iload_n (pc' := 5) dX1_grown_4 rfl rfl ?_
  refine w_mild (pc' := 6) dX1_grown_5 rfl rfl (by first | omega | (simp (decide := true) only [au_1, nu_2, au_lt, nu_lt, aw_e, nw_e, au_s, au_n, nu_s, nu_n, au_au, nu_nu, au_nu]; omega)) (by first | omega | (simp (decide := true) only [au_1, nu_2, au_lt, nu_lt, aw_e, nw_e, au_s, au_n, nu_s, nu_n, au_au, nu_nu, au_nu]; omega)) ?_
  refine w_ist4 (pc' := 8) dX1_grown_6 rfl rfl ?_
  refine w_aload_n (pc' := 9) dX1_grown_8 rfl rfl ?_
  refine w_mga 27 (pc' := 12) dX1_grown_9 rfl fX1_67_1 rfl ?_
  refine w_iload_n (pc' := 13) dX1_grown_12 rfl rfl ?_
  refine w_mild (pc' := 14) dX1_grown_13 rfl rfl (by first | omega | (simp (decide := true) only [au_1, nu_2, au_lt, nu_lt, aw_e, nw_e, au_s, au_n, nu_s, nu_n, au_au, nu_nu, au_nu]; omega)) (by first | omega | (simp (decide := true) only [au_1, nu_2, au_lt, nu_lt, aw_e, nw_e, au_s, au_n, nu_s, nu_n, au_au, nu_nu, au_nu]; omega)) ?_
  refine w_ist5 (pc' := 16) dX1_grown_14 rfl rfl ?_
  refine w_iload_n (pc' := 17) dX1_grown_16 rfl rfl ?_
  refine w_iload (pc' := 19) dX1_grown_17 rfl rfl ?_
  refine w_imul (pc' := 20) dX1_grown_19 rfl ⟨by first | omega | (simp (decide := true) only [au_1, nu_2, au_lt, nu_lt, aw_e, nw_e, au_s, au_n, nu_s, nu_n, au_au, nu_nu, au_nu]; omega), by first | omega | (simp (decide := true) only [au_1, nu_2, au_lt, nu_lt, aw_e, nw_e, au_s, au_n, nu_s, nu_n, au_au, nu_nu, au_nu]; omega)⟩ ?_
  refine w_bipush (pc' := 22) dX1_grown_20 rfl (by decide +kernel) (by decide) ?_
  -- at 22: .if_icmp .le 5
  try simp (decide := true) only [au_1, nu_2, au_lt, nu_lt, aw_e, nw_e, au_s, au_n, nu_s, nu_n, au_au, nu_nu, au_nu]
  refine w_icmp_le (pc' := 25) (tgt := 27) dX1_grown_22 rfl rfl (fun g1 => ?_) (fun g1 => ?_)
  · -- the rows
    have iloop : ∀ i, 0 ≤ i → i ≤ m → ∀ (f g h : Int → Int) (x y : Int) (x7 x8 x9 x10 x11 x12 : Option XV), rep s m P f g h → grD σ r s P i 0 0 f → grL σ r s P i 0 g h → (∀ i', 0 ≤ i' → i' < i → rowC σ r P i') → tvW mX1_grown (d + 3) K 30 [some (xR mR), some (xI r), some (xI s), some (xI m), some (xI (σ.2 26 r)), some (xI (σ.2 27 r)), some (xI i), x7, x8, x9, x10, x11, x12] [] (ov (nu (nu (au (au (au σ 30 (f)) 31 (g)) 32 (h)) 18 (x)) 19 (y)) G0) bc bs := by
      intro i i0 i1
      revert i0
      refine up (T := fun i => 0 ≤ i → ∀ (f g h : Int → Int) (x y : Int) (x7 x8 x9 x10 x11 x12 : Option XV), rep s m P f g h → grD σ r s P i 0 0 f → grL σ r s P i 0 g h → (∀ i', 0 ≤ i' → i' < i → rowC σ r P i') → tvW mX1_grown (d + 3) K 30 [some (xR mR), some (xI r), some (xI s), some (xI m), some (xI (σ.2 26 r)), some (xI (σ.2 27 r)), some (xI i), x7, x8, x9, x10, x11, x12] [] (ov (nu (nu (au (au (au σ 30 (f)) 31 (g)) 32 (h)) 18 (x)) 19 (y)) G0) bc bs) (a := i) m i1 (fun i0 f g h x y x7 x8 x9 x10 x11 x12 hrep hD hL hC' => ?_) (fun i i0' i1 ih i0 f g h x y x7 x8 x9 x10 x11 x12 hrep hD hL hC' => ?_)
      · refine w_iload (pc' := 32) dX1_grown_30 rfl rfl ?_
        refine w_iload_n (pc' := 33) dX1_grown_32 rfl rfl ?_
        -- at 33: .if_icmp .ge 259
        try simp (decide := true) only [au_1, nu_2, au_lt, nu_lt, aw_e, nw_e, au_s, au_n, nu_s, nu_n, au_au, nu_nu, au_nu]
        refine w_icmp_ge (pc' := 36) (tgt := 292) dX1_grown_33 rfl rfl (fun h_ => ?_) (fun h_ => False.elim (by first | omega | (simp (decide := true) only [au_1, nu_2, au_lt, nu_lt, aw_e, nw_e, au_s, au_n, nu_s, nu_n, au_au, nu_nu, au_nu] at h_; omega)))
        refine w_iconst (pc' := 293) dX1_grown_292 rfl (by decide) ?_
        -- at 293: .ireturn
        try simp (decide := true) only [au_1, nu_2, au_lt, nu_lt, aw_e, nw_e, au_s, au_n, nu_s, nu_n, au_au, nu_nu, au_nu]
        refine w_zreturn dX1_grown_293 rfl (by first | exact Or.inl rfl | exact Or.inr rfl | omega) ?_
        refine h1 ⟨g1, hC'⟩ f g h x y (fun t t0 t1 => ?_)
        have e := dvc (k := t) (c := (σ.2 26 r)) (r := m) (by omega) t0 t1
        obtain ⟨⟨a0, a1⟩, ⟨b0, b1⟩, e⟩ := e
        have hl := hL (t / (σ.2 26 r)) (t % (σ.2 26 r)) a0 b0 b1 (by omega)
        rw [show (σ.2 26 r) * (t / (σ.2 26 r)) + t % (σ.2 26 r) = t by rw [Int.mul_comm]; exact e] at hl
        refine ⟨hl.1, hl.2, fun k k0 k1 => ?_⟩
        obtain ⟨⟨c0, c1⟩, ⟨d0, d1⟩, e2⟩ := dvc (k := k) (c := (σ.2 27 r)) (r := P.1 (t / (σ.2 26 r))) (by omega) k0 k1
        have hd := hD (t / (σ.2 26 r)) (t % (σ.2 26 r)) (k / (σ.2 27 r)) (k % (σ.2 27 r)) a0 b0 b1 c0 c1 d0 d1 (by omega)
        rw [show (σ.2 26 r) * (t / (σ.2 26 r)) + t % (σ.2 26 r) = t by rw [Int.mul_comm]; exact e, show (σ.2 27 r) * (k / (σ.2 27 r)) + k % (σ.2 27 r) = k by rw [Int.mul_comm]; exact e2] at hd
        exact hd
      · have ih := ih (by omega)
        obtain ⟨⟨l0, l1⟩, ⟨o0, o1⟩, hcell⟩ := hP i i0 i1
        obtain ⟨r1, r2, r3⟩ := hrep i i0 i1
        have hlC := mlr (a := P.1 i) (b := (σ.2 27 r)) (A := 60) (B := 4) (by omega) (by omega) (by omega) (by omega)
        have hoC : -120 ≤ P.2.1 i * (σ.2 27 r) ∧ P.2.1 i * (σ.2 27 r) ≤ 120 := by
          have e1 := Int.mul_le_mul_of_nonneg_right (c := (σ.2 27 r)) (show P.2.1 i ≤ 30 by omega) (by omega)
          have e2 := Int.mul_le_mul_of_nonneg_right (c := (σ.2 27 r)) (show -30 ≤ P.2.1 i by omega) (by omega)
          omega
        have hRi : 0 ≤ (σ.2 26 r) * i ∧ (σ.2 26 r) * i + (σ.2 26 r) ≤ 60 := by
          have e1 := Int.mul_nonneg (show 0 ≤ (σ.2 26 r) by omega) i0
          have e2 : (i + 1) * (σ.2 26 r) ≤ m * (σ.2 26 r) := Int.mul_le_mul_of_nonneg_right (by omega) (by omega)
          rw [Int.add_mul, Int.mul_comm i] at e2
          omega
        have hsl : ∀ z, 0 ≤ z → z < 60 → (0 ≤ 60 * (1 - s) + z ∧ 60 * (1 - s) + z < 120) := by intro z z0 z1; rcases hs with rfl | rfl <;> omega
        have hbad : ¬ rowC σ r P i → ∀ (f g h : Int → Int) (x y : Int), K (some (xI 0)) (ov (nu (nu (au (au (au σ 30 (f)) 31 (g)) 32 (h)) 18 (x)) 19 (y)) G0) := fun q f g h x y => h0 (fun z => q (z.2 i i0 i1)) f g h x y
        unfold rowC at hbad
        have bad : ¬ (P.1 i * (σ.2 27 r) ≤ 60 ∧ (-30 ≤ P.2.1 i * (σ.2 27 r) ∧ P.2.1 i * (σ.2 27 r) ≤ 30)) → tvW mX1_grown (d + 3) K 86 [some (xR mR), some (xI r), some (xI s), some (xI m), some (xI (σ.2 26 r)), some (xI (σ.2 27 r)), some (xI i), some (xI (60 * s + i)), some (xI (P.2.1 i * (σ.2 27 r))), x9, x10, x11, x12] [] (ov (nu (nu (au (au (au σ 30 (f)) 31 (g)) 32 (h)) 18 (x)) 19 (y)) G0) bc bs := by
          intro q
          refine w_iconst (pc' := 87) dX1_grown_86 rfl (by decide) ?_
          -- at 87: .ireturn
          try simp (decide := true) only [au_1, nu_2, au_lt, nu_lt, aw_e, nw_e, au_s, au_n, nu_s, nu_n, au_au, nu_nu, au_nu]
          refine w_zreturn dX1_grown_87 rfl (by first | exact Or.inl rfl | exact Or.inr rfl | omega) ?_
          exact hbad (fun z => q ⟨z.1, z.2.1⟩) f g h x y
        refine w_iload (pc' := 32) dX1_grown_30 rfl rfl ?_
        refine w_iload_n (pc' := 33) dX1_grown_32 rfl rfl ?_
        -- at 33: .if_icmp .ge 259
        try simp (decide := true) only [au_1, nu_2, au_lt, nu_lt, aw_e, nw_e, au_s, au_n, nu_s, nu_n, au_au, nu_nu, au_nu]
        refine w_icmp_ge (pc' := 36) (tgt := 292) dX1_grown_33 rfl rfl (fun h_ => False.elim (by first | omega | (simp (decide := true) only [au_1, nu_2, au_lt, nu_lt, aw_e, nw_e, au_s, au_n, nu_s, nu_n, au_au, nu_nu, au_nu] at h_; omega))) (fun h_ => ?_)
        refine w_bipush (pc' := 38) dX1_grown_36 rfl (by decide +kernel) (by decide) ?_
        refine w_iload_n (pc' := 39) dX1_grown_38 rfl rfl ?_
        refine w_imul (pc' := 40) dX1_grown_39 rfl ⟨by first | omega | (simp (decide := true) only [au_1, nu_2, au_lt, nu_lt, aw_e, nw_e, au_s, au_n, nu_s, nu_n, au_au, nu_nu, au_nu]; omega), by first | omega | (simp (decide := true) only [au_1, nu_2, au_lt, nu_lt, aw_e, nw_e, au_s, au_n, nu_s, nu_n, au_au, nu_nu, au_nu]; omega)⟩ ?_
        refine w_iload (pc' := 42) dX1_grown_40 rfl rfl ?_
        refine w_iadd (pc' := 43) dX1_grown_42 rfl ⟨by first | omega | (simp (decide := true) only [au_1, nu_2, au_lt, nu_lt, aw_e, nw_e, au_s, au_n, nu_s, nu_n, au_au, nu_nu, au_nu]; omega), by first | omega | (simp (decide := true) only [au_1, nu_2, au_lt, nu_lt, aw_e, nw_e, au_s, au_n, nu_s, nu_n, au_au, nu_nu, au_nu]; omega)⟩ ?_
        refine w_ist7 (pc' := 45) dX1_grown_43 rfl rfl ?_
        refine w_aload_n (pc' := 46) dX1_grown_45 rfl rfl ?_
        refine w_mga 32 (pc' := 49) dX1_grown_46 rfl fX1_79_1 rfl ?_
        refine w_iload (pc' := 51) dX1_grown_49 rfl rfl ?_
        refine w_mild (pc' := 52) dX1_grown_51 rfl rfl (by rcases hs with rfl | rfl <;> omega) (by rcases hs with rfl | rfl <;> omega) ?_
        -- at 52: .iload 5
        try simp (decide := true) only [au_1, nu_2, au_lt, nu_lt, aw_e, nw_e, au_s, au_n, nu_s, nu_n, au_au, nu_nu, au_nu]
        rw [r2]
        refine w_iload (pc' := 54) dX1_grown_52 rfl rfl ?_
        refine w_imul (pc' := 55) dX1_grown_54 rfl ⟨by first | omega | (simp (decide := true) only [au_1, nu_2, au_lt, nu_lt, aw_e, nw_e, au_s, au_n, nu_s, nu_n, au_au, nu_nu, au_nu]; omega), by first | omega | (simp (decide := true) only [au_1, nu_2, au_lt, nu_lt, aw_e, nw_e, au_s, au_n, nu_s, nu_n, au_au, nu_nu, au_nu]; omega)⟩ ?_
        refine w_ist8 (pc' := 57) dX1_grown_55 rfl rfl ?_
        refine w_aload_n (pc' := 58) dX1_grown_57 rfl rfl ?_
        refine w_mga 31 (pc' := 61) dX1_grown_58 rfl fX1_76_1 rfl ?_
        refine w_iload (pc' := 63) dX1_grown_61 rfl rfl ?_
        refine w_mild (pc' := 64) dX1_grown_63 rfl rfl (by rcases hs with rfl | rfl <;> omega) (by rcases hs with rfl | rfl <;> omega) ?_
        -- at 64: .iload 5
        try simp (decide := true) only [au_1, nu_2, au_lt, nu_lt, aw_e, nw_e, au_s, au_n, nu_s, nu_n, au_au, nu_nu, au_nu]
        rw [r1]
        refine w_iload (pc' := 66) dX1_grown_64 rfl rfl ?_
        refine w_imul (pc' := 67) dX1_grown_66 rfl ⟨by first | omega | (simp (decide := true) only [au_1, nu_2, au_lt, nu_lt, aw_e, nw_e, au_s, au_n, nu_s, nu_n, au_au, nu_nu, au_nu]; omega), by first | omega | (simp (decide := true) only [au_1, nu_2, au_lt, nu_lt, aw_e, nw_e, au_s, au_n, nu_s, nu_n, au_au, nu_nu, au_nu]; omega)⟩ ?_
        refine w_bipush (pc' := 69) dX1_grown_67 rfl (by decide +kernel) (by decide) ?_
        refine w_icmp_gt (pc' := 72) (tgt := 86) dX1_grown_69 rfl rfl (fun g69 => by exact bad (by omega)) (fun g69 => ?_)
        refine w_iload (pc' := 74) dX1_grown_72 rfl rfl ?_
        refine w_bipush (pc' := 76) dX1_grown_74 rfl (by decide +kernel) (by decide) ?_
        refine w_icmp_lt (pc' := 79) (tgt := 86) dX1_grown_76 rfl rfl (fun g76 => by exact bad (by omega)) (fun g76 => ?_)
        refine w_iload (pc' := 81) dX1_grown_79 rfl rfl ?_
        refine w_bipush (pc' := 83) dX1_grown_81 rfl (by decide +kernel) (by decide) ?_
        refine w_icmp_le (pc' := 86) (tgt := 88) dX1_grown_83 rfl rfl (fun g83 => ?_) (fun g83 => by exact bad (by omega))
        -- at 88: .iconst 0
        -- the cells of the row
        have kloop : ∀ k, 0 ≤ k → k ≤ P.1 i → ∀ (f g h : Int → Int) (x y : Int) (x10 x11 x12 : Option XV), rep s m P f g h → grD σ r s P i k 0 f → grL σ r s P i 0 g h → (∀ k', 0 ≤ k' → k' < k → (P.2.2 i k' = 0 ∨ mOf (P.2.2 i k') % 2 = 0 ∨ (σ.2 26 r) = (σ.2 27 r))) → tvW mX1_grown (d + 3) K 91 [some (xR mR), some (xI r), some (xI s), some (xI m), some (xI (σ.2 26 r)), some (xI (σ.2 27 r)), some (xI i), some (xI (60 * s + i)), some (xI (P.2.1 i * (σ.2 27 r))), some (xI k), x10, x11, x12] [] (ov (nu (nu (au (au (au σ 30 (f)) 31 (g)) 32 (h)) 18 (x)) 19 (y)) G0) bc bs := by
          intro k k0 k1
          revert k0
          refine up (T := fun k => 0 ≤ k → ∀ (f g h : Int → Int) (x y : Int) (x10 x11 x12 : Option XV), rep s m P f g h → grD σ r s P i k 0 f → grL σ r s P i 0 g h → (∀ k', 0 ≤ k' → k' < k → (P.2.2 i k' = 0 ∨ mOf (P.2.2 i k') % 2 = 0 ∨ (σ.2 26 r) = (σ.2 27 r))) → tvW mX1_grown (d + 3) K 91 [some (xR mR), some (xI r), some (xI s), some (xI m), some (xI (σ.2 26 r)), some (xI (σ.2 27 r)), some (xI i), some (xI (60 * s + i)), some (xI (P.2.1 i * (σ.2 27 r))), some (xI k), x10, x11, x12] [] (ov (nu (nu (au (au (au σ 30 (f)) 31 (g)) 32 (h)) 18 (x)) 19 (y)) G0) bc bs) (a := k) (P.1 i) k1 (fun k0 f g h x y x10 x11 x12 hrep hD hL hc' => ?_) (fun k k0' k1 ihk k0 f g h x y x10 x11 x12 hrep hD hL hc' => ?_)
          · obtain ⟨r1, r2, r3⟩ := hrep i i0 i1
            refine w_iload (pc' := 93) dX1_grown_91 rfl rfl ?_
            refine w_aload_n (pc' := 94) dX1_grown_93 rfl rfl ?_
            refine w_mga 31 (pc' := 97) dX1_grown_94 rfl fX1_76_1 rfl ?_
            refine w_iload (pc' := 99) dX1_grown_97 rfl rfl ?_
            refine w_mild (pc' := 100) dX1_grown_99 rfl rfl (by rcases hs with rfl | rfl <;> omega) (by rcases hs with rfl | rfl <;> omega) ?_
            -- at 100: .if_icmp .ge 127
            try simp (decide := true) only [au_1, nu_2, au_lt, nu_lt, aw_e, nw_e, au_s, au_n, nu_s, nu_n, au_au, nu_nu, au_nu]
            rw [r1]
            refine w_icmp_ge (pc' := 103) (tgt := 227) dX1_grown_100 rfl rfl (fun h_ => ?_) (fun h_ => False.elim (by first | omega | (simp (decide := true) only [au_1, nu_2, au_lt, nu_lt, aw_e, nw_e, au_s, au_n, nu_s, nu_n, au_au, nu_nu, au_nu] at h_; omega)))
            -- lengths and offsets of the new rows
            refine w_iconst (pc' := 228) dX1_grown_227 rfl (by decide) ?_
            refine w_ist9 (pc' := 230) dX1_grown_228 rfl rfl ?_
            -- at 230: .iload 9
            try simp (decide := true) only [au_1, nu_2, au_lt, nu_lt, aw_e, nw_e, au_s, au_n, nu_s, nu_n, au_au, nu_nu, au_nu]
            have aloop : ∀ a, 0 ≤ a → a ≤ (σ.2 26 r) → ∀ (g h : Int → Int) (x10 x11 x12 : Option XV), rep s m P f g h → grL σ r s P i a g h → tvW mX1_grown (d + 3) K 230 [some (xR mR), some (xI r), some (xI s), some (xI m), some (xI (σ.2 26 r)), some (xI (σ.2 27 r)), some (xI i), some (xI (60 * s + i)), some (xI (P.2.1 i * (σ.2 27 r))), some (xI a), x10, x11, x12] [] (ov (nu (nu (au (au (au σ 30 (f)) 31 (g)) 32 (h)) 18 (x)) 19 (y)) G0) bc bs := by
              intro a a0 a1
              revert a0
              refine up (T := fun a => 0 ≤ a → ∀ (g h : Int → Int) (x10 x11 x12 : Option XV), rep s m P f g h → grL σ r s P i a g h → tvW mX1_grown (d + 3) K 230 [some (xR mR), some (xI r), some (xI s), some (xI m), some (xI (σ.2 26 r)), some (xI (σ.2 27 r)), some (xI i), some (xI (60 * s + i)), some (xI (P.2.1 i * (σ.2 27 r))), some (xI a), x10, x11, x12] [] (ov (nu (nu (au (au (au σ 30 (f)) 31 (g)) 32 (h)) 18 (x)) 19 (y)) G0) bc bs) (a := a) (σ.2 26 r) a1 (fun a0 g h x10 x11 x12 hrep hL => ?_) (fun a a0' a1 iha a0 g h x10 x11 x12 hrep hL => ?_)
              · refine w_iload (pc' := 232) dX1_grown_230 rfl rfl ?_
                refine w_iload (pc' := 234) dX1_grown_232 rfl rfl ?_
                -- at 234: .if_icmp .ge 52
                try simp (decide := true) only [au_1, nu_2, au_lt, nu_lt, aw_e, nw_e, au_s, au_n, nu_s, nu_n, au_au, nu_nu, au_nu]
                refine w_icmp_ge (pc' := 237) (tgt := 286) dX1_grown_234 rfl rfl (fun h_ => ?_) (fun h_ => False.elim (by first | omega | (simp (decide := true) only [au_1, nu_2, au_lt, nu_lt, aw_e, nw_e, au_s, au_n, nu_s, nu_n, au_au, nu_nu, au_nu] at h_; omega)))
                refine w_inc6 (pc' := 289) dX1_grown_286 rfl rfl ⟨by first | omega | (simp (decide := true) only [au_1, nu_2, au_lt, nu_lt, aw_e, nw_e, au_s, au_n, nu_s, nu_n, au_au, nu_nu, au_nu]; omega), by first | omega | (simp (decide := true) only [au_1, nu_2, au_lt, nu_lt, aw_e, nw_e, au_s, au_n, nu_s, nu_n, au_au, nu_nu, au_nu]; omega)⟩ ?_
                refine w_goto (tgt := 30) dX1_grown_289 rfl ?_
                -- at 30: .iload 6
                try simp (decide := true) only [au_1, nu_2, au_lt, nu_lt, aw_e, nw_e, au_s, au_n, nu_s, nu_n, au_au, nu_nu, au_nu]
                refine ih f g h x y _ _ _ _ _ _ hrep ?_ ?_ ?_
                · intro i' a k' b q0 q1 q2 q3 q4 q5 q6 q7
                  have hab := ixr q1 q2 q5 q6
                  refine hD i' a k' b q0 q1 q2 q3 q4 q5 q6 ?_
                  by_cases e : i' = i
                  · subst e; omega
                  · omega
                · intro i' a q0 q1 q2 q3
                  exact hL i' a q0 q1 q2 (by omega)
                · intro i' q0 q1
                  by_cases e : i' = i
                  · subst e; exact ⟨by omega, ⟨by omega, by omega⟩, fun k' z0 z1 => hc' k' z0 z1⟩
                  · exact hC' i' q0 (by omega)
              · have hz := hsl ((σ.2 26 r) * i + a) (by omega) (by omega)
                obtain ⟨r1, r2, r3⟩ := hrep i i0 i1
                refine w_iload (pc' := 232) dX1_grown_230 rfl rfl ?_
                refine w_iload (pc' := 234) dX1_grown_232 rfl rfl ?_
                -- at 234: .if_icmp .ge 52
                try simp (decide := true) only [au_1, nu_2, au_lt, nu_lt, aw_e, nw_e, au_s, au_n, nu_s, nu_n, au_au, nu_nu, au_nu]
                refine w_icmp_ge (pc' := 237) (tgt := 286) dX1_grown_234 rfl rfl (fun h_ => False.elim (by first | omega | (simp (decide := true) only [au_1, nu_2, au_lt, nu_lt, aw_e, nw_e, au_s, au_n, nu_s, nu_n, au_au, nu_nu, au_nu] at h_; omega))) (fun h_ => ?_)
                refine w_bipush (pc' := 239) dX1_grown_237 rfl (by decide +kernel) (by decide) ?_
                refine w_iconst (pc' := 240) dX1_grown_239 rfl (by decide) ?_
                refine w_iload_n (pc' := 241) dX1_grown_240 rfl rfl ?_
                refine w_isub (pc' := 242) dX1_grown_241 rfl ⟨by first | omega | (simp (decide := true) only [au_1, nu_2, au_lt, nu_lt, aw_e, nw_e, au_s, au_n, nu_s, nu_n, au_au, nu_nu, au_nu]; omega), by first | omega | (simp (decide := true) only [au_1, nu_2, au_lt, nu_lt, aw_e, nw_e, au_s, au_n, nu_s, nu_n, au_au, nu_nu, au_nu]; omega)⟩ ?_
                refine w_imul (pc' := 243) dX1_grown_242 rfl ⟨by first | omega | (simp (decide := true) only [au_1, nu_2, au_lt, nu_lt, aw_e, nw_e, au_s, au_n, nu_s, nu_n, au_au, nu_nu, au_nu]; omega), by first | omega | (simp (decide := true) only [au_1, nu_2, au_lt, nu_lt, aw_e, nw_e, au_s, au_n, nu_s, nu_n, au_au, nu_nu, au_nu]; omega)⟩ ?_
                refine w_iload (pc' := 245) dX1_grown_243 rfl rfl ?_
                refine w_iload (pc' := 247) dX1_grown_245 rfl rfl ?_
                refine w_imul (pc' := 248) dX1_grown_247 rfl ⟨by first | omega | (simp (decide := true) only [au_1, nu_2, au_lt, nu_lt, aw_e, nw_e, au_s, au_n, nu_s, nu_n, au_au, nu_nu, au_nu]; omega), by first | omega | (simp (decide := true) only [au_1, nu_2, au_lt, nu_lt, aw_e, nw_e, au_s, au_n, nu_s, nu_n, au_au, nu_nu, au_nu]; omega)⟩ ?_
                refine w_iadd (pc' := 249) dX1_grown_248 rfl ⟨by first | omega | (simp (decide := true) only [au_1, nu_2, au_lt, nu_lt, aw_e, nw_e, au_s, au_n, nu_s, nu_n, au_au, nu_nu, au_nu]; omega), by first | omega | (simp (decide := true) only [au_1, nu_2, au_lt, nu_lt, aw_e, nw_e, au_s, au_n, nu_s, nu_n, au_au, nu_nu, au_nu]; omega)⟩ ?_
                refine w_iload (pc' := 251) dX1_grown_249 rfl rfl ?_
                refine w_iadd (pc' := 252) dX1_grown_251 rfl ⟨by first | omega | (simp (decide := true) only [au_1, nu_2, au_lt, nu_lt, aw_e, nw_e, au_s, au_n, nu_s, nu_n, au_au, nu_nu, au_nu]; omega), by first | omega | (simp (decide := true) only [au_1, nu_2, au_lt, nu_lt, aw_e, nw_e, au_s, au_n, nu_s, nu_n, au_au, nu_nu, au_nu]; omega)⟩ ?_
                refine w_ist10 (pc' := 254) dX1_grown_252 rfl rfl ?_
                refine w_aload_n (pc' := 255) dX1_grown_254 rfl rfl ?_
                refine w_mga 31 (pc' := 258) dX1_grown_255 rfl fX1_76_1 rfl ?_
                refine w_iload (pc' := 260) dX1_grown_258 rfl rfl ?_
                refine w_aload_n (pc' := 261) dX1_grown_260 rfl rfl ?_
                refine w_mga 31 (pc' := 264) dX1_grown_261 rfl fX1_76_1 rfl ?_
                refine w_iload (pc' := 266) dX1_grown_264 rfl rfl ?_
                refine w_mild (pc' := 267) dX1_grown_266 rfl rfl (by rcases hs with rfl | rfl <;> omega) (by rcases hs with rfl | rfl <;> omega) ?_
                -- at 267: .iload 5
                try simp (decide := true) only [au_1, nu_2, au_lt, nu_lt, aw_e, nw_e, au_s, au_n, nu_s, nu_n, au_au, nu_nu, au_nu]
                rw [r1]
                refine w_iload (pc' := 269) dX1_grown_267 rfl rfl ?_
                refine w_imul (pc' := 270) dX1_grown_269 rfl ⟨by first | omega | (simp (decide := true) only [au_1, nu_2, au_lt, nu_lt, aw_e, nw_e, au_s, au_n, nu_s, nu_n, au_au, nu_nu, au_nu]; omega), by first | omega | (simp (decide := true) only [au_1, nu_2, au_lt, nu_lt, aw_e, nw_e, au_s, au_n, nu_s, nu_n, au_au, nu_nu, au_nu]; omega)⟩ ?_
                refine w_aui (pc' := 271) dX1_grown_270 rfl rfl (by first | omega | (simp (decide := true) only [au_1, nu_2, au_lt, nu_lt, aw_e, nw_e, au_s, au_n, nu_s, nu_n, au_au, nu_nu, au_nu]; omega)) (by first | omega | (simp (decide := true) only [au_1, nu_2, au_lt, nu_lt, aw_e, nw_e, au_s, au_n, nu_s, nu_n, au_au, nu_nu, au_nu]; omega)) ?_
                try simp (decide := true) only [au_1, nu_2, au_lt, nu_lt, aw_e, nw_e, au_s, au_n, nu_s, nu_n, au_au, nu_nu, au_nu]
                refine w_aload_n (pc' := 272) dX1_grown_271 rfl rfl ?_
                refine w_mga 32 (pc' := 275) dX1_grown_272 rfl fX1_79_1 rfl ?_
                refine w_iload (pc' := 277) dX1_grown_275 rfl rfl ?_
                refine w_iload (pc' := 279) dX1_grown_277 rfl rfl ?_
                refine w_aui (pc' := 280) dX1_grown_279 rfl rfl (by first | omega | (simp (decide := true) only [au_1, nu_2, au_lt, nu_lt, aw_e, nw_e, au_s, au_n, nu_s, nu_n, au_au, nu_nu, au_nu]; omega)) (by first | omega | (simp (decide := true) only [au_1, nu_2, au_lt, nu_lt, aw_e, nw_e, au_s, au_n, nu_s, nu_n, au_au, nu_nu, au_nu]; omega)) ?_
                try simp (decide := true) only [au_1, nu_2, au_lt, nu_lt, aw_e, nw_e, au_s, au_n, nu_s, nu_n, au_au, nu_nu, au_nu]
                refine w_inc9 (pc' := 283) dX1_grown_280 rfl rfl ⟨by first | omega | (simp (decide := true) only [au_1, nu_2, au_lt, nu_lt, aw_e, nw_e, au_s, au_n, nu_s, nu_n, au_au, nu_nu, au_nu]; omega), by first | omega | (simp (decide := true) only [au_1, nu_2, au_lt, nu_lt, aw_e, nw_e, au_s, au_n, nu_s, nu_n, au_au, nu_nu, au_nu]; omega)⟩ ?_
                refine w_goto (tgt := 230) dX1_grown_283 rfl ?_
                -- at 230: .iload 9
                try simp (decide := true) only [au_1, nu_2, au_lt, nu_lt, aw_e, nw_e, au_s, au_n, nu_s, nu_n, au_au, nu_nu, au_nu]
                rw [Int.add_assoc (60 * (1 - s))]
                refine iha (by omega) _ _ _ _ _ ?_ ?_
                · intro i' q0 q1
                  obtain ⟨z1, z2, z3⟩ := hrep i' q0 q1
                  refine ⟨?_, ?_, z3⟩
                  · rw [iset_n (by rcases hs with rfl | rfl <;> omega)]; exact z1
                  · rw [iset_n (by rcases hs with rfl | rfl <;> omega)]; exact z2
                · intro i' a' q0 q1 q2 q3
                  by_cases e : (σ.2 26 r) * i' + a' = (σ.2 26 r) * i + a
                  · obtain ⟨e1, e2⟩ := euc q1 q2 a0 a1 e
                    subst e1; subst e2
                    exact ⟨iset_s, iset_s⟩
                  · rw [iset_n (by omega), iset_n (by omega)]
                    refine hL i' a' q0 q1 q2 ?_
                    by_cases e3 : i' = i ∧ a' = a
                    · exact absurd (by rw [e3.1, e3.2]) e
                    · omega
            exact aloop 0 (by omega) (by omega) g h _ _ _ hrep hL
          · obtain ⟨r1, r2, r3⟩ := hrep i i0 i1
            have hck := hcell k k0 k1
            have hCk : 0 ≤ (σ.2 27 r) * k ∧ (σ.2 27 r) * k + (σ.2 27 r) ≤ 60 := by
              have e1 := Int.mul_nonneg (show 0 ≤ (σ.2 27 r) by omega) k0
              have e2 : (k + 1) * (σ.2 27 r) ≤ P.1 i * (σ.2 27 r) := Int.mul_le_mul_of_nonneg_right (by omega) (by omega)
              rw [Int.add_mul, Int.mul_comm k] at e2
              omega
            have r3k := r3 k k0 k1
            refine w_iload (pc' := 93) dX1_grown_91 rfl rfl ?_
            refine w_aload_n (pc' := 94) dX1_grown_93 rfl rfl ?_
            refine w_mga 31 (pc' := 97) dX1_grown_94 rfl fX1_76_1 rfl ?_
            refine w_iload (pc' := 99) dX1_grown_97 rfl rfl ?_
            refine w_mild (pc' := 100) dX1_grown_99 rfl rfl (by rcases hs with rfl | rfl <;> omega) (by rcases hs with rfl | rfl <;> omega) ?_
            -- at 100: .if_icmp .ge 127
            try simp (decide := true) only [au_1, nu_2, au_lt, nu_lt, aw_e, nw_e, au_s, au_n, nu_s, nu_n, au_au, nu_nu, au_nu]
            rw [r1]
            refine w_icmp_ge (pc' := 103) (tgt := 227) dX1_grown_100 rfl rfl (fun h_ => False.elim (by first | omega | (simp (decide := true) only [au_1, nu_2, au_lt, nu_lt, aw_e, nw_e, au_s, au_n, nu_s, nu_n, au_au, nu_nu, au_nu] at h_; omega))) (fun h_ => ?_)
            refine w_aload_n (pc' := 104) dX1_grown_103 rfl rfl ?_
            refine w_mga 30 (pc' := 107) dX1_grown_104 rfl fX1_73_1 rfl ?_
            refine w_bipush (pc' := 109) dX1_grown_107 rfl (by decide +kernel) (by decide) ?_
            refine w_iload (pc' := 111) dX1_grown_109 rfl rfl ?_
            refine w_imul (pc' := 112) dX1_grown_111 rfl ⟨by first | omega | (simp (decide := true) only [au_1, nu_2, au_lt, nu_lt, aw_e, nw_e, au_s, au_n, nu_s, nu_n, au_au, nu_nu, au_nu]; omega), by first | omega | (simp (decide := true) only [au_1, nu_2, au_lt, nu_lt, aw_e, nw_e, au_s, au_n, nu_s, nu_n, au_au, nu_nu, au_nu]; omega)⟩ ?_
            refine w_iload (pc' := 114) dX1_grown_112 rfl rfl ?_
            refine w_iadd (pc' := 115) dX1_grown_114 rfl ⟨by first | omega | (simp (decide := true) only [au_1, nu_2, au_lt, nu_lt, aw_e, nw_e, au_s, au_n, nu_s, nu_n, au_au, nu_nu, au_nu]; omega), by first | omega | (simp (decide := true) only [au_1, nu_2, au_lt, nu_lt, aw_e, nw_e, au_s, au_n, nu_s, nu_n, au_au, nu_nu, au_nu]; omega)⟩ ?_
            refine w_mild (pc' := 116) dX1_grown_115 rfl rfl (by rcases hs with rfl | rfl <;> omega) (by rcases hs with rfl | rfl <;> omega) ?_
            -- at 116: .istore 10
            try simp (decide := true) only [au_1, nu_2, au_lt, nu_lt, aw_e, nw_e, au_s, au_n, nu_s, nu_n, au_au, nu_nu, au_nu]
            rw [r3k]
            generalize hcg : P.2.2 i k = c at *
            -- the block of a cell
            have nloop : (c = 0 ∨ mOf c % 2 = 0 ∨ (σ.2 26 r) = (σ.2 27 r)) → tvW mX1_grown (d + 3) K 143 [some (xR mR), some (xI r), some (xI s), some (xI m), some (xI (σ.2 26 r)), some (xI (σ.2 27 r)), some (xI i), some (xI (60 * s + i)), some (xI (P.2.1 i * (σ.2 27 r))), some (xI k), some (xI c), x11, x12] [] (ov (nu (nu (au (au (au σ 30 (f)) 31 (g)) 32 (h)) 18 (x)) 19 (y)) G0) bc bs := by
              intro hcc
              refine w_iconst (pc' := 144) dX1_grown_143 rfl (by decide) ?_
              refine w_ist11 (pc' := 146) dX1_grown_144 rfl rfl ?_
              -- at 146: .iload 11
              try simp (decide := true) only [au_1, nu_2, au_lt, nu_lt, aw_e, nw_e, au_s, au_n, nu_s, nu_n, au_au, nu_nu, au_nu]
              have main : ∀ n, 0 ≤ n → n ≤ (σ.2 26 r) * (σ.2 27 r) → ∀ (f : Int → Int) (x y : Int) (x12 : Option XV), rep s m P f g h → grD σ r s P i k n f → tvW mX1_grown (d + 3) K 146 [some (xR mR), some (xI r), some (xI s), some (xI m), some (xI (σ.2 26 r)), some (xI (σ.2 27 r)), some (xI i), some (xI (60 * s + i)), some (xI (P.2.1 i * (σ.2 27 r))), some (xI k), some (xI c), some (xI n), x12] [] (ov (nu (nu (au (au (au σ 30 (f)) 31 (g)) 32 (h)) 18 (x)) 19 (y)) G0) bc bs := by
                intro n n0 n1
                revert n0
                refine up (T := fun n => 0 ≤ n → ∀ (f : Int → Int) (x y : Int) (x12 : Option XV), rep s m P f g h → grD σ r s P i k n f → tvW mX1_grown (d + 3) K 146 [some (xR mR), some (xI r), some (xI s), some (xI m), some (xI (σ.2 26 r)), some (xI (σ.2 27 r)), some (xI i), some (xI (60 * s + i)), some (xI (P.2.1 i * (σ.2 27 r))), some (xI k), some (xI c), some (xI n), x12] [] (ov (nu (nu (au (au (au σ 30 (f)) 31 (g)) 32 (h)) 18 (x)) 19 (y)) G0) bc bs) (a := n) ((σ.2 26 r) * (σ.2 27 r)) n1 (fun n0 f x y x12 hrep hD => ?_) (fun n n0' n1 ihn n0 f x y x12 hrep hD => ?_)
                · refine w_iload (pc' := 148) dX1_grown_146 rfl rfl ?_
                  refine w_iload (pc' := 150) dX1_grown_148 rfl rfl ?_
                  refine w_iload (pc' := 152) dX1_grown_150 rfl rfl ?_
                  refine w_imul (pc' := 153) dX1_grown_152 rfl ⟨by first | omega | (simp (decide := true) only [au_1, nu_2, au_lt, nu_lt, aw_e, nw_e, au_s, au_n, nu_s, nu_n, au_au, nu_nu, au_nu]; omega), by first | omega | (simp (decide := true) only [au_1, nu_2, au_lt, nu_lt, aw_e, nw_e, au_s, au_n, nu_s, nu_n, au_au, nu_nu, au_nu]; omega)⟩ ?_
                  -- at 153: .if_icmp .ge 68
                  try simp (decide := true) only [au_1, nu_2, au_lt, nu_lt, aw_e, nw_e, au_s, au_n, nu_s, nu_n, au_au, nu_nu, au_nu]
                  refine w_icmp_ge (pc' := 156) (tgt := 221) dX1_grown_153 rfl rfl (fun h_ => ?_) (fun h_ => False.elim (by first | omega | (simp (decide := true) only [au_1, nu_2, au_lt, nu_lt, aw_e, nw_e, au_s, au_n, nu_s, nu_n, au_au, nu_nu, au_nu] at h_; omega)))
                  refine w_inc9 (pc' := 224) dX1_grown_221 rfl rfl ⟨by first | omega | (simp (decide := true) only [au_1, nu_2, au_lt, nu_lt, aw_e, nw_e, au_s, au_n, nu_s, nu_n, au_au, nu_nu, au_nu]; omega), by first | omega | (simp (decide := true) only [au_1, nu_2, au_lt, nu_lt, aw_e, nw_e, au_s, au_n, nu_s, nu_n, au_au, nu_nu, au_nu]; omega)⟩ ?_
                  refine w_goto (tgt := 91) dX1_grown_224 rfl ?_
                  -- at 91: .iload 9
                  try simp (decide := true) only [au_1, nu_2, au_lt, nu_lt, aw_e, nw_e, au_s, au_n, nu_s, nu_n, au_au, nu_nu, au_nu]
                  refine ihk (by omega) f g h x y _ _ _ hrep ?_ hL ?_
                  · intro i' a k' b q0 q1 q2 q3 q4 q5 q6 q7
                    refine hD i' a k' b q0 q1 q2 q3 q4 q5 q6 ?_
                    have := ixr q1 q2 q5 q6
                    omega
                  · intro k' z0 z1
                    by_cases e : k' = k
                    · rw [e, hcg]; exact hcc
                    · exact hc' k' z0 (by omega)
                · obtain ⟨⟨a0, a1⟩, ⟨b0, b1⟩, hn⟩ := dvc (k := n) (c := (σ.2 27 r)) (r := (σ.2 26 r)) (by omega) n0 n1
                  generalize ha : n / (σ.2 27 r) = a at *
                  generalize hb : n % (σ.2 27 r) = b at *
                  have hz := hsl ((σ.2 26 r) * i + a) (by omega) (by omega)
                  have hbi : c ≠ 0 → a < mvR (mOf c) (σ.2 26 r) (σ.2 27 r) ∧ b < mvC (mOf c) (σ.2 26 r) (σ.2 27 r) := by
                    intro q
                    unfold mvR mvC
                    split <;> omega
                  refine w_iload (pc' := 148) dX1_grown_146 rfl rfl ?_
                  refine w_iload (pc' := 150) dX1_grown_148 rfl rfl ?_
                  refine w_iload (pc' := 152) dX1_grown_150 rfl rfl ?_
                  refine w_imul (pc' := 153) dX1_grown_152 rfl ⟨by first | omega | (simp (decide := true) only [au_1, nu_2, au_lt, nu_lt, aw_e, nw_e, au_s, au_n, nu_s, nu_n, au_au, nu_nu, au_nu]; omega), by first | omega | (simp (decide := true) only [au_1, nu_2, au_lt, nu_lt, aw_e, nw_e, au_s, au_n, nu_s, nu_n, au_au, nu_nu, au_nu]; omega)⟩ ?_
                  -- at 153: .if_icmp .ge 68
                  try simp (decide := true) only [au_1, nu_2, au_lt, nu_lt, aw_e, nw_e, au_s, au_n, nu_s, nu_n, au_au, nu_nu, au_nu]
                  refine w_icmp_ge (pc' := 156) (tgt := 221) dX1_grown_153 rfl rfl (fun h_ => False.elim (by first | omega | (simp (decide := true) only [au_1, nu_2, au_lt, nu_lt, aw_e, nw_e, au_s, au_n, nu_s, nu_n, au_au, nu_nu, au_nu] at h_; omega))) (fun h_ => ?_)
                  refine w_bipush (pc' := 158) dX1_grown_156 rfl (by decide +kernel) (by decide) ?_
                  refine w_iconst (pc' := 159) dX1_grown_158 rfl (by decide) ?_
                  refine w_iload_n (pc' := 160) dX1_grown_159 rfl rfl ?_
                  refine w_isub (pc' := 161) dX1_grown_160 rfl ⟨by first | omega | (simp (decide := true) only [au_1, nu_2, au_lt, nu_lt, aw_e, nw_e, au_s, au_n, nu_s, nu_n, au_au, nu_nu, au_nu]; omega), by first | omega | (simp (decide := true) only [au_1, nu_2, au_lt, nu_lt, aw_e, nw_e, au_s, au_n, nu_s, nu_n, au_au, nu_nu, au_nu]; omega)⟩ ?_
                  refine w_imul (pc' := 162) dX1_grown_161 rfl ⟨by first | omega | (simp (decide := true) only [au_1, nu_2, au_lt, nu_lt, aw_e, nw_e, au_s, au_n, nu_s, nu_n, au_au, nu_nu, au_nu]; omega), by first | omega | (simp (decide := true) only [au_1, nu_2, au_lt, nu_lt, aw_e, nw_e, au_s, au_n, nu_s, nu_n, au_au, nu_nu, au_nu]; omega)⟩ ?_
                  refine w_iload (pc' := 164) dX1_grown_162 rfl rfl ?_
                  refine w_iload (pc' := 166) dX1_grown_164 rfl rfl ?_
                  refine w_imul (pc' := 167) dX1_grown_166 rfl ⟨by first | omega | (simp (decide := true) only [au_1, nu_2, au_lt, nu_lt, aw_e, nw_e, au_s, au_n, nu_s, nu_n, au_au, nu_nu, au_nu]; omega), by first | omega | (simp (decide := true) only [au_1, nu_2, au_lt, nu_lt, aw_e, nw_e, au_s, au_n, nu_s, nu_n, au_au, nu_nu, au_nu]; omega)⟩ ?_
                  refine w_iadd (pc' := 168) dX1_grown_167 rfl ⟨by first | omega | (simp (decide := true) only [au_1, nu_2, au_lt, nu_lt, aw_e, nw_e, au_s, au_n, nu_s, nu_n, au_au, nu_nu, au_nu]; omega), by first | omega | (simp (decide := true) only [au_1, nu_2, au_lt, nu_lt, aw_e, nw_e, au_s, au_n, nu_s, nu_n, au_au, nu_nu, au_nu]; omega)⟩ ?_
                  refine w_iload (pc' := 170) dX1_grown_168 rfl rfl ?_
                  refine w_iload (pc' := 172) dX1_grown_170 rfl rfl ?_
                  refine w_idiv (pc' := 173) dX1_grown_172 rfl (by first | omega | (simp (decide := true) only [au_1, nu_2, au_lt, nu_lt, aw_e, nw_e, au_s, au_n, nu_s, nu_n, au_au, nu_nu, au_nu]; omega)) (by first | omega | (simp (decide := true) only [au_1, nu_2, au_lt, nu_lt, aw_e, nw_e, au_s, au_n, nu_s, nu_n, au_au, nu_nu, au_nu]; omega)) ?_
                  -- at 173: .iadd
                  try simp (decide := true) only [au_1, nu_2, au_lt, nu_lt, aw_e, nw_e, au_s, au_n, nu_s, nu_n, au_au, nu_nu, au_nu]
                  rw [ha]
                  refine w_iadd (pc' := 174) dX1_grown_173 rfl ⟨by first | omega | (simp (decide := true) only [au_1, nu_2, au_lt, nu_lt, aw_e, nw_e, au_s, au_n, nu_s, nu_n, au_au, nu_nu, au_nu]; omega), by first | omega | (simp (decide := true) only [au_1, nu_2, au_lt, nu_lt, aw_e, nw_e, au_s, au_n, nu_s, nu_n, au_au, nu_nu, au_nu]; omega)⟩ ?_
                  refine w_ist12 (pc' := 176) dX1_grown_174 rfl rfl ?_
                  refine w_aload_n (pc' := 177) dX1_grown_176 rfl rfl ?_
                  refine w_mga 30 (pc' := 180) dX1_grown_177 rfl fX1_73_1 rfl ?_
                  refine w_bipush (pc' := 182) dX1_grown_180 rfl (by decide +kernel) (by decide) ?_
                  refine w_iload (pc' := 184) dX1_grown_182 rfl rfl ?_
                  refine w_imul (pc' := 185) dX1_grown_184 rfl ⟨by first | omega | (simp (decide := true) only [au_1, nu_2, au_lt, nu_lt, aw_e, nw_e, au_s, au_n, nu_s, nu_n, au_au, nu_nu, au_nu]; omega), by first | omega | (simp (decide := true) only [au_1, nu_2, au_lt, nu_lt, aw_e, nw_e, au_s, au_n, nu_s, nu_n, au_au, nu_nu, au_nu]; omega)⟩ ?_
                  refine w_iload (pc' := 187) dX1_grown_185 rfl rfl ?_
                  refine w_iload (pc' := 189) dX1_grown_187 rfl rfl ?_
                  refine w_imul (pc' := 190) dX1_grown_189 rfl ⟨by first | omega | (simp (decide := true) only [au_1, nu_2, au_lt, nu_lt, aw_e, nw_e, au_s, au_n, nu_s, nu_n, au_au, nu_nu, au_nu]; omega), by first | omega | (simp (decide := true) only [au_1, nu_2, au_lt, nu_lt, aw_e, nw_e, au_s, au_n, nu_s, nu_n, au_au, nu_nu, au_nu]; omega)⟩ ?_
                  refine w_iadd (pc' := 191) dX1_grown_190 rfl ⟨by first | omega | (simp (decide := true) only [au_1, nu_2, au_lt, nu_lt, aw_e, nw_e, au_s, au_n, nu_s, nu_n, au_au, nu_nu, au_nu]; omega), by first | omega | (simp (decide := true) only [au_1, nu_2, au_lt, nu_lt, aw_e, nw_e, au_s, au_n, nu_s, nu_n, au_au, nu_nu, au_nu]; omega)⟩ ?_
                  refine w_iload (pc' := 193) dX1_grown_191 rfl rfl ?_
                  refine w_iload (pc' := 195) dX1_grown_193 rfl rfl ?_
                  refine w_irem (pc' := 196) dX1_grown_195 rfl (by first | omega | (simp (decide := true) only [au_1, nu_2, au_lt, nu_lt, aw_e, nw_e, au_s, au_n, nu_s, nu_n, au_au, nu_nu, au_nu]; omega)) (by first | omega | (simp (decide := true) only [au_1, nu_2, au_lt, nu_lt, aw_e, nw_e, au_s, au_n, nu_s, nu_n, au_au, nu_nu, au_nu]; omega)) ?_
                  -- at 196: .iadd
                  try simp (decide := true) only [au_1, nu_2, au_lt, nu_lt, aw_e, nw_e, au_s, au_n, nu_s, nu_n, au_au, nu_nu, au_nu]
                  rw [hb]
                  refine w_iadd (pc' := 197) dX1_grown_196 rfl ⟨by first | omega | (simp (decide := true) only [au_1, nu_2, au_lt, nu_lt, aw_e, nw_e, au_s, au_n, nu_s, nu_n, au_au, nu_nu, au_nu]; omega), by first | omega | (simp (decide := true) only [au_1, nu_2, au_lt, nu_lt, aw_e, nw_e, au_s, au_n, nu_s, nu_n, au_au, nu_nu, au_nu]; omega)⟩ ?_
                  refine w_aload_n (pc' := 198) dX1_grown_197 rfl rfl ?_
                  refine w_iload_n (pc' := 199) dX1_grown_198 rfl rfl ?_
                  refine w_iload (pc' := 201) dX1_grown_199 rfl rfl ?_
                  refine w_iload (pc' := 203) dX1_grown_201 rfl rfl ?_
                  refine w_iload (pc' := 205) dX1_grown_203 rfl rfl ?_
                  refine w_idiv (pc' := 206) dX1_grown_205 rfl (by first | omega | (simp (decide := true) only [au_1, nu_2, au_lt, nu_lt, aw_e, nw_e, au_s, au_n, nu_s, nu_n, au_au, nu_nu, au_nu]; omega)) (by first | omega | (simp (decide := true) only [au_1, nu_2, au_lt, nu_lt, aw_e, nw_e, au_s, au_n, nu_s, nu_n, au_au, nu_nu, au_nu]; omega)) ?_
                  -- at 206: .iload 11
                  try simp (decide := true) only [au_1, nu_2, au_lt, nu_lt, aw_e, nw_e, au_s, au_n, nu_s, nu_n, au_au, nu_nu, au_nu]
                  rw [ha]
                  refine w_iload (pc' := 208) dX1_grown_206 rfl rfl ?_
                  refine w_iload (pc' := 210) dX1_grown_208 rfl rfl ?_
                  refine w_irem (pc' := 211) dX1_grown_210 rfl (by first | omega | (simp (decide := true) only [au_1, nu_2, au_lt, nu_lt, aw_e, nw_e, au_s, au_n, nu_s, nu_n, au_au, nu_nu, au_nu]; omega)) (by first | omega | (simp (decide := true) only [au_1, nu_2, au_lt, nu_lt, aw_e, nw_e, au_s, au_n, nu_s, nu_n, au_au, nu_nu, au_nu]; omega)) ?_
                  -- at 211: .invokevirtual 252
                  try simp (decide := true) only [au_1, nu_2, au_lt, nu_lt, aw_e, nw_e, au_s, au_n, nu_s, nu_n, au_au, nu_nu, au_nu]
                  rw [hb]
                  have hK' : kok (nu (nu (au (au (au σ 30 (f)) 31 (g)) 32 (h)) 18 (x)) 19 (y)) := hK
                  have hQ' : qok (nu (nu (au (au (au σ 30 (f)) 31 (g)) 32 (h)) 18 (x)) 19 (y)) := hQ
                  refine w_callV4 (pc' := 214) (mc := 0) (ms := 0) dX1_grown_211 rfl tX1_block q1423 rfl rfl qs57 q1421 ov_o rfl (Nat.le_of_ble_eq_true rfl) (Nat.le_of_ble_eq_true rfl) ?_
                  refine c_X1_block hK' hQ' (show isC (σ.1 5) c from hck.1) hck.2 hr (fun q => ⟨a0, (hbi q).1⟩) (fun q => ⟨b0, (hbi q).2⟩) (fun x' y' => w_p1 ?_)
                  refine w_st (st' := [xI (blk σ r c a b), xI (60 * (60 * (1 - s) + (σ.2 26 r) * i + a) + (σ.2 27 r) * k + b), xR (mr 30)]) rfl ?_
                  try simp (decide := true) only [au_1, nu_2, au_lt, nu_lt, aw_e, nw_e, au_s, au_n, nu_s, nu_n, au_au, nu_nu, au_nu]
                  refine w_aui (pc' := 215) dX1_grown_214 rfl rfl (by first | omega | (simp (decide := true) only [au_1, nu_2, au_lt, nu_lt, aw_e, nw_e, au_s, au_n, nu_s, nu_n, au_au, nu_nu, au_nu]; omega)) (by first | omega | (simp (decide := true) only [au_1, nu_2, au_lt, nu_lt, aw_e, nw_e, au_s, au_n, nu_s, nu_n, au_au, nu_nu, au_nu]; omega)) ?_
                  try simp (decide := true) only [au_1, nu_2, au_lt, nu_lt, aw_e, nw_e, au_s, au_n, nu_s, nu_n, au_au, nu_nu, au_nu]
                  refine w_inc11 (pc' := 218) dX1_grown_215 rfl rfl ⟨by first | omega | (simp (decide := true) only [au_1, nu_2, au_lt, nu_lt, aw_e, nw_e, au_s, au_n, nu_s, nu_n, au_au, nu_nu, au_nu]; omega), by first | omega | (simp (decide := true) only [au_1, nu_2, au_lt, nu_lt, aw_e, nw_e, au_s, au_n, nu_s, nu_n, au_au, nu_nu, au_nu]; omega)⟩ ?_
                  refine w_goto (tgt := 146) dX1_grown_218 rfl ?_
                  -- at 146: .iload 11
                  try simp (decide := true) only [au_1, nu_2, au_lt, nu_lt, aw_e, nw_e, au_s, au_n, nu_s, nu_n, au_au, nu_nu, au_nu]
                  refine ihn (by omega) _ _ _ _ ?_ ?_
                  · intro i' q0 q1
                    obtain ⟨z1, z2, z3⟩ := hrep i' q0 q1
                    have z4 := (hP i' q0 q1).1
                    refine ⟨z1, z2, fun k' k0' k1' => ?_⟩
                    rw [iset_n (by rcases hs with rfl | rfl <;> omega)]
                    exact z3 k' k0' k1'
                  · intro i' a' k' b' q0 q1 q2 q3 q4 q5 q6 q7
                    rw [show 60 * (60 * (1 - s) + (σ.2 26 r) * i + a) + (σ.2 27 r) * k + b = 60 * (60 * (1 - s) + ((σ.2 26 r) * i + a)) + ((σ.2 27 r) * k + b) by omega]
                    by_cases e : i' = i ∧ a' = a ∧ k' = k ∧ b' = b
                    · obtain ⟨rfl, rfl, rfl, rfl⟩ := e
                      rw [iset_s, hcg]
                    · have hlt : i' < i ∨ i' = i ∧ (k' < k ∨ k' = k ∧ a' * (σ.2 27 r) + b' < n) := by
                        by_cases e2 : i' = i ∧ k' = k
                        · have : a' * (σ.2 27 r) + b' ≠ n := by
                            intro e3
                            rw [← hn] at e3
                            have := euc (R := (σ.2 27 r)) (i := a') (i' := a) q5 q6 b0 b1 (by rw [Int.mul_comm, e3, Int.mul_comm])
                            exact e ⟨e2.1, this.1, e2.2, this.2⟩
                          omega
                        · omega
                      have hi' : i' < m := by omega
                      have hCk' : 0 ≤ (σ.2 27 r) * k' ∧ (σ.2 27 r) * k' + (σ.2 27 r) ≤ 60 := by
                        have e1 := Int.mul_nonneg (show 0 ≤ (σ.2 27 r) by omega) q3
                        have e2 : (k' + 1) * (σ.2 27 r) ≤ P.1 i' * (σ.2 27 r) := Int.mul_le_mul_of_nonneg_right (by omega) (by omega)
                        have e3 : P.1 i' * (σ.2 27 r) ≤ 60 := by
                          by_cases e4 : i' = i
                          · rw [e4]; omega
                          · exact (hC' i' q0 (by omega)).1
                        rw [Int.add_mul, Int.mul_comm k'] at e2
                        omega
                      rw [iset_n ?_]
                      · exact hD i' a' k' b' q0 q1 q2 q3 q4 q5 q6 hlt
                      · intro e3
                        have e4 : (σ.2 26 r) * i' + a' = (σ.2 26 r) * i + a := by omega
                        have e5 : (σ.2 27 r) * k' + b' = (σ.2 27 r) * k + b := by omega
                        have e6 := euc q1 q2 a0 a1 e4
                        have e7 := euc q5 q6 b0 b1 e5
                        exact e ⟨e6.1, e6.2, e7.1, e7.2⟩
              exact main 0 (by omega) (by omega) f x y _ hrep hD
            refine w_ist10 (pc' := 118) dX1_grown_116 rfl rfl ?_
            refine w_iload (pc' := 120) dX1_grown_118 rfl rfl ?_
            -- at 120: .ifCond .eq 23
            try simp (decide := true) only [au_1, nu_2, au_lt, nu_lt, aw_e, nw_e, au_s, au_n, nu_s, nu_n, au_au, nu_nu, au_nu]
            refine w_if_eq (pc' := 123) (tgt := 143) dX1_grown_120 rfl rfl (fun g2 => ?_) (fun g2 => ?_)
            · exact nloop (Or.inl g2)
            · refine w_iload (pc' := 125) dX1_grown_123 rfl rfl ?_
              -- at 125: .invokestatic 160
              try simp (decide := true) only [au_1, nu_2, au_lt, nu_lt, aw_e, nw_e, au_s, au_n, nu_s, nu_n, au_au, nu_nu, au_nu]
              refine w_callS1 (pc' := 128) (mc := 0) (ms := 0) dX1_grown_125 rfl tX1_moveOf q1356 q1355 rfl (Nat.le_of_ble_eq_true rfl) (Nat.le_of_ble_eq_true rfl) ?_
              refine c_X1_moveOf ?_
              refine w_p1 ?_
              have e1 := bAnd_1 (mOf c)
              refine w_iconst (pc' := 129) dX1_grown_128 rfl (by decide) ?_
              refine w_iand (pc' := 130) dX1_grown_129 rfl ?_
              refine w_iconst (pc' := 131) dX1_grown_130 rfl (by decide) ?_
              -- at 131: .if_icmp .ne 12
              try simp (decide := true) only [au_1, nu_2, au_lt, nu_lt, aw_e, nw_e, au_s, au_n, nu_s, nu_n, au_au, nu_nu, au_nu]
              refine w_icmp_ne (pc' := 134) (tgt := 143) dX1_grown_131 rfl rfl (fun g3 => ?_) (fun g3 => ?_)
              · exact nloop (Or.inr (Or.inl (by omega)))
              · refine w_iload (pc' := 136) dX1_grown_134 rfl rfl ?_
                refine w_iload (pc' := 138) dX1_grown_136 rfl rfl ?_
                -- at 138: .if_icmp .eq 5
                try simp (decide := true) only [au_1, nu_2, au_lt, nu_lt, aw_e, nw_e, au_s, au_n, nu_s, nu_n, au_au, nu_nu, au_nu]
                refine w_icmp_eq (pc' := 141) (tgt := 143) dX1_grown_138 rfl rfl (fun g4 => ?_) (fun g4 => ?_)
                · exact nloop (Or.inr (Or.inr g4))
                · refine w_iconst (pc' := 142) dX1_grown_141 rfl (by decide) ?_
                  -- at 142: .ireturn
                  try simp (decide := true) only [au_1, nu_2, au_lt, nu_lt, aw_e, nw_e, au_s, au_n, nu_s, nu_n, au_au, nu_nu, au_nu]
                  refine w_zreturn dX1_grown_142 rfl (by first | exact Or.inl rfl | exact Or.inr rfl | omega) ?_
                  refine hbad (fun z => ?_) f g h x y
                  have := z.2.2 k k0 k1
                  rw [hcg] at this
                  omega
        refine w_iconst (pc' := 89) dX1_grown_88 rfl (by decide) ?_
        refine w_ist9 (pc' := 91) dX1_grown_89 rfl rfl ?_
        -- at 91: .iload 9
        try simp (decide := true) only [au_1, nu_2, au_lt, nu_lt, aw_e, nw_e, au_s, au_n, nu_s, nu_n, au_au, nu_nu, au_nu]
        exact kloop 0 (by omega) (by omega) f g h x y _ _ _ hrep hD hL (by intro k' z0 z1; omega)
    refine w_iconst (pc' := 28) dX1_grown_27 rfl (by decide) ?_
    refine w_ist6 (pc' := 30) dX1_grown_28 rfl rfl ?_
    -- at 30: .iload 6
    try simp (decide := true) only [au_1, nu_2, au_lt, nu_lt, aw_e, nw_e, au_s, au_n, nu_s, nu_n, au_au, nu_nu, au_nu]
    exact iloop 0 (by omega) (by omega) f g h x y _ _ _ _ _ _ hrep (by intro i' a k' b q0 q1 q2 q3 q4 q5 q6 q7; have hab := ixr q1 q2 q5 q6; omega) (by intro i' a q0 q1 q2 q3; omega) (by intro i' q0 q1; omega)
  · refine w_iconst (pc' := 26) dX1_grown_25 rfl (by decide) ?_
    -- at 26: .ireturn
    try simp (decide := true) only [au_1, nu_2, au_lt, nu_lt, aw_e, nw_e, au_s, au_n, nu_s, nu_n, au_au, nu_nu, au_nu]
    refine w_zreturn dX1_grown_26 rfl (by first | exact Or.inl rfl | exact Or.inr rfl | omega) ?_
    exact h0 (fun q => by omega) f g h x y
end
