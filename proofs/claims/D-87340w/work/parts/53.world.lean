set_option maxRecDepth 10000
/-! the office and what it holds, against the reference's state -/
def Rrow (σ : MS) (G : GH) : Prop := ∀ q, 0 ≤ q → q < σ.1 9 → row G q (σ.2 6 q) (σ.2 7 q) (fun k => σ.2 8 (60 * q + k))
def Rpat (σ : MS) (G : GH) (pl : Int → Int) : Prop := lst G (-2) (σ.1 12) (fun p => some (pO p)) ∧ ∀ p, 0 ≤ p → p < σ.1 12 → G (pO p) = some (xob 3 [xR (lO (pl p))]) ∧ lst G (pl p) (σ.2 11 p) (fun i => some (rO (rw_ σ p i)))
abbrev usl (σ : MS) (t : Int) : Int := us_ σ (σ.1 16 - 1 - t)
def Rchg (σ : MS) (G : GH) (cl : Int → Int) : Prop := ∃ g, G (5, 0, 0) = some (xra 6 40 g) ∧ ∀ t, 0 ≤ t → t < σ.1 16 → g t = some (cO (cl t)) ∧ G (cO (cl t)) = some (xob 4 [xR (pO (σ.2 13 (usl σ t))), xR (lO (cl t))]) ∧ lst G (cl t) (σ.2 14 (usl σ t)) (fun i => some (rO (σ.2 15 (60 * usl σ t + i))))
def Rreg (σ : MS) (G : GH) (rg : Option Rl) (b : Int) : Prop := σ.1 24 = 0 ∧ rg = none ∨ σ.1 24 ≠ 0 ∧ rg = some (33, b, 0) ∧ ∃ (H W : Nat) (fk fm fs : Int → Int → Int), (H : Int) = σ.1 24 ∧ (W : Int) = σ.1 25 ∧ blo G b H W fk fm fs ∧ ∀ i j : Int, 0 ≤ i → i < H → 0 ≤ j → j < W → fk i j = (if σ.2 22 (i * W + j) = 0 then -2 else cdat (σ.2 20 (i * W + j)) 0) ∧ fm i j = cdat (σ.2 20 (i * W + j)) 1 ∧ fs i j = cdat (σ.2 20 (i * W + j)) 2
abbrev uB (σ : MS) (r : Int) : Int → Int → Int → Int := fun k i j => σ.2 28 (640 * r + 16 * k + 4 * i + j)
def Rrul (σ : MS) (G : GH) : Prop := lst G (-3) (σ.1 29) (fun r => some (uO r)) ∧ ∀ r, 0 ≤ r → r < σ.1 29 → ∃ H W : Nat, (H : Int) = σ.2 26 r ∧ (W : Int) = σ.2 27 r ∧ rul G r H W (uB σ r)
abbrev fO (f : Int) : Rl := (24, f, 0)
/-- a floor's board of ints: outer role (26, f, n), rows (27, 8 f + n, i) -/
def fbd (G : GH) (f n : Int) (t ty : Nat) (H W : Nat) (b : Int → Int → Int) : Prop := G (26, f, n) = some (xra t H (mrow 27 (8 * f + n) H)) ∧ ∀ i : Int, 0 ≤ i → i < H → bar G 27 ty (8 * f + n) i W (b i)
/-- a floor: size, what is there, what lies, the stock; its search's numbers are z -/
def flo (G : GH) (f : Int) (H W : Nat) (z : List Int) (is ly : Int → Int → Int) (sk lf : Int → Int) (to wa on : Int → Int → Int) : Prop := (∃ z0 z1 z2 z3 z4 z5 z6 z7 z8 z9, z = [z0, z1, z2, z3, z4, z5, z6, z7, z8, z9] ∧ G (fO f) = some (xob 8 [xI H, xI W, xR (26, f, 0), xR (25, f, 0), xR (25, f, 1), xR (26, f, 1), xR (26, f, 2), xR (26, f, 3), xR (26, f, 4), xI z0, xI z1, xI z2, xI z3, xI z4, xI z5, xI z6, xI z7, xI z8, xI z9, xR oR])) ∧ fbd G f 0 10 0 H W is ∧ fbd G f 1 10 0 H W ly ∧ fbd G f 2 10 0 H W to ∧ fbd G f 3 10 0 H W wa ∧ fbd G f 4 11 3 H W on ∧ G (25, f, 0) = some (xar 0 40 sk) ∧ G (25, f, 1) = some (xar 0 40 lf)
def isB (σ : MS) (f i j : Int) : Int := if σ.2 37 (64 * f + 8 * i + j) = -2 then 1 else if σ.2 37 (64 * f + 8 * i + j) = 0 then 0 else 2
def Rflo (σ : MS) (G : GH) : Prop := lst G (-4) (σ.1 40) (fun f => some (fO f)) ∧ ∀ f, 0 ≤ f → f < σ.1 40 → ∃ (H W : Nat) (z : List Int) (is ly : Int → Int → Int) (sk lf : Int → Int) (to wa on : Int → Int → Int), (H : Int) = σ.2 35 f ∧ (W : Int) = σ.2 36 f ∧ flo G f H W z is ly sk lf to wa on ∧ (∀ i j : Int, 0 ≤ i → i < H → 0 ≤ j → j < W → is i j = isB σ f i j ∧ ly i j = lyB σ f (fun k => σ.2 38 (64 * f + k)) i j - 1) ∧ ∀ k, 0 ≤ k → k < 40 → sk k = σ.2 39 (40 * f + k)
def Rscr (G : GH) : Prop := (G (6, 0, 0) = some (xra 11 40 (mrow 7 0 40)) ∧ ∀ i : Int, 0 ≤ i → i < 40 → ∃ g, G (7, 0, i) = some (xar 3 8 g)) ∧ (G (6, 1, 0) = some (xra 11 40 (mrow 7 1 40)) ∧ ∀ i : Int, 0 ≤ i → i < 40 → ∃ g, G (7, 1, i) = some (xar 3 8 g)) ∧ (G (6, 2, 0) = some (xra 12 40 (mrow 8 0 40)) ∧ ∀ i : Int, 0 ≤ i → i < 40 → ∃ g, G (8, 0, i) = some (xar 4 40 g)) ∧ (G (6, 3, 0) = some (xra 11 61 (mrow 7 2 61)) ∧ ∀ i : Int, 0 ≤ i → i < 61 → ∃ g, G (7, 2, i) = some (xar 3 40 g)) ∧ (∃ g, G (9, 0, 0) = some (xar 4 40 g)) ∧ ∃ g, G (9, 1, 0) = some (xar 4 40 g)
/-- what is free -/
def fre (σ : MS) (N : Int) (G : GH) : Prop := ∀ r : Rl, (30 ≤ r.1 ∧ r.1 < 60 ∧ N ≤ r.2.1) ∨ (12 ≤ r.1 ∧ r.1 < 18 ∧ r.2.1 < -N) ∨ ((r.1 = 12 ∨ r.1 = 13) ∧ σ.1 5 ≤ r.2.1) ∨ (14 ≤ r.1 ∧ r.1 < 18 ∧ σ.1 9 ≤ r.2.1) ∨ (r.1 = 18 ∧ σ.1 12 ≤ r.2.1) ∨ ((r.1 = 20 ∨ r.1 = 21) ∧ σ.1 29 ≤ r.2.1) ∨ ((33 ≤ r.1 ∧ r.1 < 38) ∧ r.2.1 < -(40 * σ.1 29)) ∨ ((24 ≤ r.1 ∧ r.1 < 27) ∧ σ.1 40 ≤ r.2.1) ∨ (r.1 = 27 ∧ 8 * σ.1 40 ≤ r.2.1) → G r = none
/-- the lists' numbers are all different -/
def ids (σ : MS) (pl cl : Int → Int) (N b : Int) : Prop := 0 ≤ N ∧ (0 ≤ b ∧ b < N ∨ b = -1 ∧ σ.1 24 = 0) ∧ (∀ p, 0 ≤ p → p < σ.1 12 → 0 ≤ pl p ∧ pl p < N) ∧ (∀ t, 0 ≤ t → t < σ.1 16 → 0 ≤ cl t ∧ cl t < N) ∧ (∀ p q, 0 ≤ p → p < σ.1 12 → 0 ≤ q → q < σ.1 12 → pl p = pl q → p = q) ∧ (∀ s t, 0 ≤ s → s < σ.1 16 → 0 ≤ t → t < σ.1 16 → cl s = cl t → s = t) ∧ ∀ p t, 0 ≤ p → p < σ.1 12 → 0 ≤ t → t < σ.1 16 → pl p ≠ cl t
abbrev RW : Type := (Int → Int) × (Int → Int) × Int × Int × Option Rl
/-- the world by parts, its names w -/
def Rx (σ : MS) (w : RW) (G : GH) : Prop := off G (σ.1 16) (σ.1 9) (σ.1 41) w.2.2.2.2 ∧ Rkin σ G ∧ Rrow σ G ∧ Rpat σ G w.1 ∧ Rchg σ G w.2.1 ∧ Rreg σ G w.2.2.2.2 w.2.2.2.1 ∧ Rrul σ G ∧ Rflo σ G ∧ Rscr G ∧ fre σ w.2.2.1 G ∧ ids σ w.1 w.2.1 w.2.2.1 w.2.2.2.1
def Rel (σ : MS) (G : GH) : Prop := ∃ w, Rx σ w G
/-- a pattern's rows -/
theorem Rx_prw {σ : MS} {w : RW} {G : GH} (h : Rx σ w G) (hr : rok σ) (hp : pok σ) {p : Int} (p0 : 0 ≤ p) (p1 : p < σ.1 12) : prw G (w.1 p) (σ.2 11 p) (rw_ σ p) (fun i => σ.2 6 (rw_ σ p i)) (fun i => σ.2 7 (rw_ σ p i)) (fun i k => σ.2 8 (60 * rw_ σ p i + k)) := by
  refine ⟨(h.2.2.2.1.2 p p0 p1).2, fun i i0 i1 => ?_⟩
  obtain ⟨x0, x1⟩ := (hp.2 p p0 p1).2 i i0 i1
  obtain ⟨y1, y2, -⟩ := hr.2 _ x0 x1
  exact ⟨h.2.2.1 _ x0 x1, y1, y2⟩
section
variable {d : Nat} {K : Option XV → GH → Prop} {G0 G : GH} {bc bs : Nat} {σ : MS} {w : RW}
theorem c_X0_isMove {m : Int} (h1 : 0 ≤ m → m < 8 → K (some (xI 1)) G) (h0 : ¬ (0 ≤ m ∧ m < 8) → K (some (xI 0)) G) : tvW mX0_isMove d K 0 [some (xI m)] [] G bc bs := by
  refine w_iload_n (pc' := 1) dX0_isMove_0 rfl rfl ?_
  -- at 1: .ifCond .lt 13
  refine w_if_lt (pc' := 4) (tgt := 14) dX0_isMove_1 rfl rfl (fun h => ?_) (fun h => ?_)
  · refine w_iconst (pc' := 15) dX0_isMove_14 rfl (by decide) ?_
    -- at 15: .ireturn
    refine w_zreturn dX0_isMove_15 rfl (by first | exact Or.inl rfl | exact Or.inr rfl | omega) ?_
    exact h0 (by omega)
  · refine w_iload_n (pc' := 5) dX0_isMove_4 rfl rfl ?_
    refine w_bipush (pc' := 7) dX0_isMove_5 rfl (by decide +kernel) (by decide) ?_
    -- at 7: .if_icmp .ge 7
    refine w_icmp_ge (pc' := 10) (tgt := 14) dX0_isMove_7 rfl rfl (fun g => ?_) (fun g => ?_)
    · refine w_iconst (pc' := 15) dX0_isMove_14 rfl (by decide) ?_
      -- at 15: .ireturn
      refine w_zreturn dX0_isMove_15 rfl (by first | exact Or.inl rfl | exact Or.inr rfl | omega) ?_
      exact h0 (by omega)
    · refine w_iconst (pc' := 11) dX0_isMove_10 rfl (by decide) ?_
      refine w_goto (tgt := 15) dX0_isMove_11 rfl ?_
      -- at 15: .ireturn
      refine w_zreturn dX0_isMove_15 rfl (by first | exact Or.inl rfl | exact Or.inr rfl | omega) ?_
      exact h1 (by omega) (by omega)
theorem c_X0_isKind {k : Int} (hw : Rx σ w G) (h1 : 0 ≤ k → k < σ.1 5 → K (some (xI 1)) G) (h0 : ¬ (0 ≤ k ∧ k < σ.1 5) → K (some (xI 0)) G) : tvW mX0_isKind (d + 1) K 0 [some (xR oR), some (xI k)] [] G bc bs := by
  obtain ⟨fs, hO⟩ := lst_o hw.2.1.1
  refine w_iload_n (pc' := 1) dX0_isKind_0 rfl rfl ?_
  -- at 1: .ifCond .lt 18
  refine w_if_lt (pc' := 4) (tgt := 19) dX0_isKind_1 rfl rfl (fun h => ?_) (fun h => ?_)
  · refine w_iconst (pc' := 20) dX0_isKind_19 rfl (by decide) ?_
    -- at 20: .ireturn
    refine w_zreturn dX0_isKind_20 rfl (by first | exact Or.inl rfl | exact Or.inr rfl | omega) ?_
    exact h0 (by omega)
  · refine w_iload_n (pc' := 5) dX0_isKind_4 rfl rfl ?_
    refine w_aload_n (pc' := 6) dX0_isKind_5 rfl rfl ?_
    refine w_get 0 (pc' := 9) dX0_isKind_6 rfl fX0_10_0 hw.1 rfl ?_
    -- at 9: .invokevirtual 54
    refine w_callV0 (pc' := 12) (mc := 0) (ms := 0) dX0_isKind_9 rfl tJ2_size q207 rfl rfl q208 q206 hO rfl (Nat.le_of_ble_eq_true rfl) (Nat.le_of_ble_eq_true rfl) ?_
    refine c_J2_size hw.2.1.1 ?_
    refine w_p1 ?_
    refine w_icmp_ge (pc' := 15) (tgt := 19) dX0_isKind_12 rfl rfl (fun g => ?_) (fun g => ?_)
    · refine w_iconst (pc' := 20) dX0_isKind_19 rfl (by decide) ?_
      -- at 20: .ireturn
      refine w_zreturn dX0_isKind_20 rfl (by first | exact Or.inl rfl | exact Or.inr rfl | omega) ?_
      exact h0 (by omega)
    · refine w_iconst (pc' := 16) dX0_isKind_15 rfl (by decide) ?_
      refine w_goto (tgt := 20) dX0_isKind_16 rfl ?_
      -- at 20: .ireturn
      refine w_zreturn dX0_isKind_20 rfl (by first | exact Or.inl rfl | exact Or.inr rfl | omega) ?_
      exact h1 (by omega) (by omega)
theorem c_X0_pattern_2 {p : Int} (hw : Rx σ w G) (h1 : 0 ≤ p → p < σ.1 12 → K (some (xR (pO p))) G) (h0 : ¬ (0 ≤ p ∧ p < σ.1 12) → K (some xN) G) : tvW mX0_pattern_2 (d + 3) K 0 [some (xR oR), some (xI p)] [] G bc bs := by
  obtain ⟨fs, hO⟩ := lst_o hw.2.2.2.1.1
  have no : ¬ (0 ≤ p ∧ p < σ.1 12) → tvW mX0_pattern_2 (d + 3) K 29 [some (xR oR), some (xI p)] [] G bc bs := by
    intro g
    refine w_null (pc' := 30) dX0_pattern_2_29 rfl ?_
    -- at 30: .areturn
    refine w_areturn dX0_pattern_2_30 rfl ?_
    exact h0 g
  refine w_iload_n (pc' := 1) dX0_pattern_2_0 rfl rfl ?_
  -- at 1: .ifCond .lt 28
  refine w_if_lt (pc' := 4) (tgt := 29) dX0_pattern_2_1 rfl rfl (fun g => ?_) (fun g => ?_)
  · exact no (by omega)
  · refine w_iload_n (pc' := 5) dX0_pattern_2_4 rfl rfl ?_
    refine w_aload_n (pc' := 6) dX0_pattern_2_5 rfl rfl ?_
    refine w_get 1 (pc' := 9) dX0_pattern_2_6 rfl fX0_16_0 hw.1 rfl ?_
    -- at 9: .invokevirtual 54
    refine w_callV0 (pc' := 12) (mc := 0) (ms := 0) dX0_pattern_2_9 rfl tJ2_size q207 rfl rfl q208 q206 hO rfl (Nat.le_of_ble_eq_true rfl) (Nat.le_of_ble_eq_true rfl) ?_
    refine c_J2_size hw.2.2.2.1.1 ?_
    refine w_p1 ?_
    refine w_icmp_ge (pc' := 15) (tgt := 29) dX0_pattern_2_12 rfl rfl (fun g2 => ?_) (fun g2 => ?_)
    · exact no (by omega)
    · refine w_aload_n (pc' := 16) dX0_pattern_2_15 rfl rfl ?_
      refine w_get 1 (pc' := 19) dX0_pattern_2_16 rfl fX0_16_0 hw.1 rfl ?_
      refine w_iload_n (pc' := 20) dX0_pattern_2_19 rfl rfl ?_
      -- at 20: .invokevirtual 58
      refine w_callV1 (pc' := 23) (mc := 0) (ms := 0) dX0_pattern_2_20 rfl tJ2_get q211 rfl rfl q212 q210 hO rfl (Nat.le_of_ble_eq_true rfl) (Nat.le_of_ble_eq_true rfl) ?_
      refine c_J2_get hw.2.2.2.1.1 ⟨by omega, by omega⟩ ?_
      refine w_p1 ?_
      refine w_cast (pc' := 26) dX0_pattern_2_23 rfl (hw.2.2.2.1.2 p (by omega) (by omega)).1 rfl q355 ?_
      refine w_goto (tgt := 30) dX0_pattern_2_26 rfl ?_
      -- at 30: .areturn
      refine w_areturn dX0_pattern_2_30 rfl ?_
      exact h1 (by omega) (by omega)
theorem c_X0_rule_2 {p : Int} (hw : Rx σ w G) (h1 : 0 ≤ p → p < σ.1 29 → K (some (xR (uO p))) G) (h0 : ¬ (0 ≤ p ∧ p < σ.1 29) → K (some xN) G) : tvW mX0_rule_2 (d + 3) K 0 [some (xR oR), some (xI p)] [] G bc bs := by
  have hl := hw.2.2.2.2.2.2.1
  obtain ⟨fs, hO⟩ := lst_o hl.1
  have no : ¬ (0 ≤ p ∧ p < σ.1 29) → tvW mX0_rule_2 (d + 3) K 29 [some (xR oR), some (xI p)] [] G bc bs := by
    intro g
    refine w_null (pc' := 30) dX0_rule_2_29 rfl ?_
    -- at 30: .areturn
    refine w_areturn dX0_rule_2_30 rfl ?_
    exact h0 g
  refine w_iload_n (pc' := 1) dX0_rule_2_0 rfl rfl ?_
  -- at 1: .ifCond .lt 28
  refine w_if_lt (pc' := 4) (tgt := 29) dX0_rule_2_1 rfl rfl (fun g => ?_) (fun g => ?_)
  · exact no (by omega)
  · refine w_iload_n (pc' := 5) dX0_rule_2_4 rfl rfl ?_
    refine w_aload_n (pc' := 6) dX0_rule_2_5 rfl rfl ?_
    refine w_get 2 (pc' := 9) dX0_rule_2_6 rfl fX0_19_0 hw.1 rfl ?_
    -- at 9: .invokevirtual 54
    refine w_callV0 (pc' := 12) (mc := 0) (ms := 0) dX0_rule_2_9 rfl tJ2_size q207 rfl rfl q208 q206 hO rfl (Nat.le_of_ble_eq_true rfl) (Nat.le_of_ble_eq_true rfl) ?_
    refine c_J2_size hl.1 ?_
    refine w_p1 ?_
    refine w_icmp_ge (pc' := 15) (tgt := 29) dX0_rule_2_12 rfl rfl (fun g2 => ?_) (fun g2 => ?_)
    · exact no (by omega)
    · obtain ⟨H, W, -, -, hu⟩ := hl.2 p (by omega) (by omega)
      refine w_aload_n (pc' := 16) dX0_rule_2_15 rfl rfl ?_
      refine w_get 2 (pc' := 19) dX0_rule_2_16 rfl fX0_19_0 hw.1 rfl ?_
      refine w_iload_n (pc' := 20) dX0_rule_2_19 rfl rfl ?_
      -- at 20: .invokevirtual 58
      refine w_callV1 (pc' := 23) (mc := 0) (ms := 0) dX0_rule_2_20 rfl tJ2_get q211 rfl rfl q212 q210 hO rfl (Nat.le_of_ble_eq_true rfl) (Nat.le_of_ble_eq_true rfl) ?_
      refine c_J2_get hl.1 ⟨by omega, by omega⟩ ?_
      refine w_p1 ?_
      refine w_cast (pc' := 26) dX0_rule_2_23 rfl hu.1 rfl q610 ?_
      refine w_goto (tgt := 30) dX0_rule_2_26 rfl ?_
      -- at 30: .areturn
      refine w_areturn dX0_rule_2_30 rfl ?_
      exact h1 (by omega) (by omega)
theorem c_X0_floor_2 {p : Int} (hw : Rx σ w G) (h1 : 0 ≤ p → p < σ.1 40 → K (some (xR (fO p))) G) (h0 : ¬ (0 ≤ p ∧ p < σ.1 40) → K (some xN) G) : tvW mX0_floor_2 (d + 3) K 0 [some (xR oR), some (xI p)] [] G bc bs := by
  have hl := hw.2.2.2.2.2.2.2.1
  obtain ⟨fs, hO⟩ := lst_o hl.1
  have no : ¬ (0 ≤ p ∧ p < σ.1 40) → tvW mX0_floor_2 (d + 3) K 29 [some (xR oR), some (xI p)] [] G bc bs := by
    intro g
    refine w_null (pc' := 30) dX0_floor_2_29 rfl ?_
    -- at 30: .areturn
    refine w_areturn dX0_floor_2_30 rfl ?_
    exact h0 g
  refine w_iload_n (pc' := 1) dX0_floor_2_0 rfl rfl ?_
  -- at 1: .ifCond .lt 28
  refine w_if_lt (pc' := 4) (tgt := 29) dX0_floor_2_1 rfl rfl (fun g => ?_) (fun g => ?_)
  · exact no (by omega)
  · refine w_iload_n (pc' := 5) dX0_floor_2_4 rfl rfl ?_
    refine w_aload_n (pc' := 6) dX0_floor_2_5 rfl rfl ?_
    refine w_get 3 (pc' := 9) dX0_floor_2_6 rfl fX0_22_0 hw.1 rfl ?_
    -- at 9: .invokevirtual 54
    refine w_callV0 (pc' := 12) (mc := 0) (ms := 0) dX0_floor_2_9 rfl tJ2_size q207 rfl rfl q208 q206 hO rfl (Nat.le_of_ble_eq_true rfl) (Nat.le_of_ble_eq_true rfl) ?_
    refine c_J2_size hl.1 ?_
    refine w_p1 ?_
    refine w_icmp_ge (pc' := 15) (tgt := 29) dX0_floor_2_12 rfl rfl (fun g2 => ?_) (fun g2 => ?_)
    · exact no (by omega)
    · obtain ⟨H, W, z, is, ly, sk, lf, to, wa, on, -, -, ⟨⟨z0, z1, z2, z3, z4, z5, z6, z7, z8, z9, -, hu⟩, -⟩, -⟩ := hl.2 p (by omega) (by omega)
      refine w_aload_n (pc' := 16) dX0_floor_2_15 rfl rfl ?_
      refine w_get 3 (pc' := 19) dX0_floor_2_16 rfl fX0_22_0 hw.1 rfl ?_
      refine w_iload_n (pc' := 20) dX0_floor_2_19 rfl rfl ?_
      -- at 20: .invokevirtual 58
      refine w_callV1 (pc' := 23) (mc := 0) (ms := 0) dX0_floor_2_20 rfl tJ2_get q211 rfl rfl q212 q210 hO rfl (Nat.le_of_ble_eq_true rfl) (Nat.le_of_ble_eq_true rfl) ?_
      refine c_J2_get hl.1 ⟨by omega, by omega⟩ ?_
      refine w_p1 ?_
      refine w_cast (pc' := 26) dX0_floor_2_23 rfl hu rfl q865 ?_
      refine w_goto (tgt := 30) dX0_floor_2_26 rfl ?_
      -- at 30: .areturn
      refine w_areturn dX0_floor_2_30 rfl ?_
      exact h1 (by omega) (by omega)
theorem c_X0_then {a b : Int} (h : K (some (xI (if (0 ≤ a ∧ a < 8) ∧ 0 ≤ b ∧ b < 8 then thn a b else -1))) G) : tvW mX0_then (d + 2) K 0 [some (xR oR), some (xI a), some (xI b)] [] G bc bs := by
  have no : ¬ ((0 ≤ a ∧ a < 8) ∧ 0 ≤ b ∧ b < 8) → tvW mX0_then (d + 2) K 22 [some (xR oR), some (xI a), some (xI b)] [] G bc bs := by
    intro g
    refine w_iconst (pc' := 23) dX0_then_22 rfl (by decide) ?_
    -- at 23: .ireturn
    refine w_ireturn dX0_then_23 rfl ?_
    rw [if_neg g] at h
    exact h
  refine w_iload_n (pc' := 1) dX0_then_0 rfl rfl ?_
  -- at 1: .invokestatic 106
  refine w_callS1 (pc' := 4) (mc := 0) (ms := 0) dX0_then_1 rfl tX0_isMove q324 q323 rfl (Nat.le_of_ble_eq_true rfl) (Nat.le_of_ble_eq_true rfl) ?_
  refine c_X0_isMove (fun a1 a2 => w_p1 ?_) (fun g => w_p1 ?_)
  · refine w_if_eq (pc' := 7) (tgt := 22) dX0_then_4 rfl rfl (fun h_ => False.elim (by first | omega | (simp (decide := true) only [au_1, nu_2, au_lt, nu_lt, aw_e, nw_e, au_s, au_n, nu_s, nu_n, au_au, nu_nu, au_nu] at h_; omega))) (fun h_ => ?_)
    refine w_iload_n (pc' := 8) dX0_then_7 rfl rfl ?_
    -- at 8: .invokestatic 106
    refine w_callS1 (pc' := 11) (mc := 0) (ms := 0) dX0_then_8 rfl tX0_isMove q324 q323 rfl (Nat.le_of_ble_eq_true rfl) (Nat.le_of_ble_eq_true rfl) ?_
    refine c_X0_isMove (fun b1 b2 => w_p1 ?_) (fun g => w_p1 ?_)
    · refine w_if_eq (pc' := 14) (tgt := 22) dX0_then_11 rfl rfl (fun h_ => False.elim (by first | omega | (simp (decide := true) only [au_1, nu_2, au_lt, nu_lt, aw_e, nw_e, au_s, au_n, nu_s, nu_n, au_au, nu_nu, au_nu] at h_; omega))) (fun h_ => ?_)
      refine w_iload_n (pc' := 15) dX0_then_14 rfl rfl ?_
      refine w_iload_n (pc' := 16) dX0_then_15 rfl rfl ?_
      -- at 16: .invokestatic 117
      refine w_callS2 (pc' := 19) (mc := 0) (ms := 0) dX0_then_16 rfl tX3_then q349 q348 rfl (Nat.le_of_ble_eq_true rfl) (Nat.le_of_ble_eq_true rfl) ?_
      refine c_X3_then ⟨a1, a2⟩ ⟨b1, b2⟩ ?_
      refine w_p1 ?_
      refine w_goto (tgt := 23) dX0_then_19 rfl ?_
      -- at 23: .ireturn
      refine w_ireturn dX0_then_23 rfl ?_
      rw [if_pos ⟨⟨a1, a2⟩, b1, b2⟩] at h
      exact h
    · refine w_if_eq (pc' := 14) (tgt := 22) dX0_then_11 rfl rfl (fun h_ => ?_) (fun h_ => False.elim (by first | omega | (simp (decide := true) only [au_1, nu_2, au_lt, nu_lt, aw_e, nw_e, au_s, au_n, nu_s, nu_n, au_au, nu_nu, au_nu] at h_; omega)))
      exact no (fun q => g q.2)
  · refine w_if_eq (pc' := 7) (tgt := 22) dX0_then_4 rfl rfl (fun h_ => ?_) (fun h_ => False.elim (by first | omega | (simp (decide := true) only [au_1, nu_2, au_lt, nu_lt, aw_e, nw_e, au_s, au_n, nu_s, nu_n, au_au, nu_nu, au_nu] at h_; omega)))
    exact no (fun q => g q.1)
theorem c_X0_edge {k m e : Int} (hw : Rx σ w G) (hk : kok σ) (h : K (some (xI (if (0 ≤ k ∧ k < σ.1 5) ∧ (0 ≤ m ∧ m < 8) ∧ 0 ≤ e ∧ e ≤ 4 then (if e = 4 then lie (σ.2 3 k) (σ.2 1 k) m else col (σ.2 0 k) (lie (σ.2 3 k) (σ.2 1 k) m) e) else -1))) G) : tvW mX0_edge (d + 3) K 0 [some (xR oR), some (xI k), some (xI m), some (xI e), none, none] [] G bc bs := by
  obtain ⟨fs, hO⟩ := lst_o hw.2.1.1
  have hof := hw.1
  unfold off at hof
  have no : ¬ ((0 ≤ k ∧ k < σ.1 5) ∧ (0 ≤ m ∧ m < 8) ∧ 0 ≤ e ∧ e ≤ 4) → tvW mX0_edge (d + 3) K 24 [some (xR oR), some (xI k), some (xI m), some (xI e), none, none] [] G bc bs := by
    intro g
    refine w_iconst (pc' := 25) dX0_edge_24 rfl (by decide) ?_
    -- at 25: .ireturn
    refine w_ireturn dX0_edge_25 rfl ?_
    rw [if_neg g] at h
    exact h
  refine w_aload_n (pc' := 1) dX0_edge_0 rfl rfl ?_
  refine w_iload_n (pc' := 2) dX0_edge_1 rfl rfl ?_
  -- at 2: .invokevirtual 102
  refine w_callV1 (pc' := 5) (mc := 0) (ms := 0) dX0_edge_2 rfl tX0_isKind q321 rfl rfl qs3 q319 hof rfl (Nat.le_of_ble_eq_true rfl) (Nat.le_of_ble_eq_true rfl) ?_
  refine c_X0_isKind hw (fun k0 k1 => w_p1 ?_) (fun g => w_p1 ?_)
  · refine w_if_eq (pc' := 8) (tgt := 24) dX0_edge_5 rfl rfl (fun h_ => False.elim (by first | omega | (simp (decide := true) only [au_1, nu_2, au_lt, nu_lt, aw_e, nw_e, au_s, au_n, nu_s, nu_n, au_au, nu_nu, au_nu] at h_; omega))) (fun h_ => ?_)
    refine w_iload_n (pc' := 9) dX0_edge_8 rfl rfl ?_
    -- at 9: .invokestatic 106
    refine w_callS1 (pc' := 12) (mc := 0) (ms := 0) dX0_edge_9 rfl tX0_isMove q324 q323 rfl (Nat.le_of_ble_eq_true rfl) (Nat.le_of_ble_eq_true rfl) ?_
    refine c_X0_isMove (fun m0 m1 => w_p1 ?_) (fun g => w_p1 ?_)
    · refine w_if_eq (pc' := 15) (tgt := 24) dX0_edge_12 rfl rfl (fun h_ => False.elim (by first | omega | (simp (decide := true) only [au_1, nu_2, au_lt, nu_lt, aw_e, nw_e, au_s, au_n, nu_s, nu_n, au_au, nu_nu, au_nu] at h_; omega))) (fun h_ => ?_)
      refine w_iload_n (pc' := 16) dX0_edge_15 rfl rfl ?_
      -- at 16: .ifCond .lt 8
      refine w_if_lt (pc' := 19) (tgt := 24) dX0_edge_16 rfl rfl (fun g1 => ?_) (fun g1 => ?_)
      · exact no (fun q => by omega)
      · refine w_iload_n (pc' := 20) dX0_edge_19 rfl rfl ?_
        refine w_iconst (pc' := 21) dX0_edge_20 rfl (by decide) ?_
        -- at 21: .if_icmp .le 5
        refine w_icmp_le (pc' := 24) (tgt := 26) dX0_edge_21 rfl rfl (fun g2 => ?_) (fun g2 => ?_)
        · obtain ⟨tE, tT, tC, tN⟩ := hk.2 k k0 k1
          have tl := hw.2.1.2 k k0 k1
          have hl := lie_r (mir := σ.2 3 k) tT m0 m1
          rw [if_pos ⟨⟨k0, k1⟩, ⟨m0, m1⟩, by omega, by omega⟩] at h
          refine w_aload_n (pc' := 27) dX0_edge_26 rfl rfl ?_
          refine w_get 0 (pc' := 30) dX0_edge_27 rfl fX0_10_0 hof rfl ?_
          refine w_iload_n (pc' := 31) dX0_edge_30 rfl rfl ?_
          -- at 31: .invokevirtual 58
          refine w_callV1 (pc' := 34) (mc := 0) (ms := 0) dX0_edge_31 rfl tJ2_get q211 rfl rfl q212 q210 hO rfl (Nat.le_of_ble_eq_true rfl) (Nat.le_of_ble_eq_true rfl) ?_
          refine c_J2_get hw.2.1.1 ⟨k0, k1⟩ ?_
          refine w_p1 ?_
          refine w_cast (pc' := 37) dX0_edge_34 rfl tl.1 rfl q224 ?_
          refine w_ast4 (pc' := 39) dX0_edge_37 rfl rfl ?_
          refine w_aload (pc' := 41) dX0_edge_39 rfl rfl ?_
          refine w_iload_n (pc' := 42) dX0_edge_41 rfl rfl ?_
          -- at 42: .invokevirtual 109
          refine w_callV1 (pc' := 45) (mc := 0) (ms := 0) dX0_edge_42 rfl tX2_lies q327 rfl rfl q328 q326 tl.1 rfl (Nat.le_of_ble_eq_true rfl) (Nat.le_of_ble_eq_true rfl) ?_
          refine c_X2_lies tl tT ⟨m0, m1⟩ ?_
          refine w_p1 ?_
          refine w_ist5 (pc' := 47) dX0_edge_45 rfl rfl ?_
          refine w_iload_n (pc' := 48) dX0_edge_47 rfl rfl ?_
          refine w_iconst (pc' := 49) dX0_edge_48 rfl (by decide) ?_
          -- at 49: .if_icmp .ne 8
          refine w_icmp_ne (pc' := 52) (tgt := 57) dX0_edge_49 rfl rfl (fun g3 => ?_) (fun g3 => ?_)
          · rw [if_neg g3] at h
            refine w_aload (pc' := 59) dX0_edge_57 rfl rfl ?_
            refine w_iload (pc' := 61) dX0_edge_59 rfl rfl ?_
            refine w_iload_n (pc' := 62) dX0_edge_61 rfl rfl ?_
            -- at 62: .invokevirtual 113
            refine w_callV2 (pc' := 65) (mc := 0) (ms := 0) dX0_edge_62 rfl tX2_colour q334 rfl rfl q335 q333 tl.1 rfl (Nat.le_of_ble_eq_true rfl) (Nat.le_of_ble_eq_true rfl) ?_
            refine c_X2_colour tl hl ⟨by omega, by omega⟩ ?_
            refine w_p1 ?_
            refine w_ireturn dX0_edge_65 rfl ?_
            exact h
          · rw [if_pos g3] at h
            refine w_iload (pc' := 54) dX0_edge_52 rfl rfl ?_
            refine w_goto (tgt := 65) dX0_edge_54 rfl ?_
            -- at 65: .ireturn
            refine w_ireturn dX0_edge_65 rfl ?_
            exact h
        · exact no (fun q => by omega)
    · refine w_if_eq (pc' := 15) (tgt := 24) dX0_edge_12 rfl rfl (fun h_ => ?_) (fun h_ => False.elim (by first | omega | (simp (decide := true) only [au_1, nu_2, au_lt, nu_lt, aw_e, nw_e, au_s, au_n, nu_s, nu_n, au_au, nu_nu, au_nu] at h_; omega)))
      exact no (fun q => g q.2.1)
  · refine w_if_eq (pc' := 8) (tgt := 24) dX0_edge_5 rfl rfl (fun h_ => ?_) (fun h_ => False.elim (by first | omega | (simp (decide := true) only [au_1, nu_2, au_lt, nu_lt, aw_e, nw_e, au_s, au_n, nu_s, nu_n, au_au, nu_nu, au_nu] at h_; omega)))
    exact no (fun q => g q.1)
theorem c_X0_canMake {n : Int} (hw : Rx σ w G) (hr : rok σ) (h1 : n ≤ 6000 - σ.1 9 → K (some (xI 1)) G) (h0 : ¬ n ≤ 6000 - σ.1 9 → K (some (xI 0)) G) : tvW mX0_canMake d K 0 [some (xR oR), some (xI n)] [] G bc bs := by
  have := hr.1
  refine w_iload_n (pc' := 1) dX0_canMake_0 rfl rfl ?_
  refine w_sipush (pc' := 4) dX0_canMake_1 rfl (by decide +kernel) (by decide) ?_
  refine w_aload_n (pc' := 5) dX0_canMake_4 rfl rfl ?_
  refine w_get 6 (pc' := 8) dX0_canMake_5 rfl fX0_135_0 hw.1 rfl ?_
  refine w_isub (pc' := 9) dX0_canMake_8 rfl ⟨by first | omega | (simp (decide := true) only [au_1, nu_2, au_lt, nu_lt, aw_e, nw_e, au_s, au_n, nu_s, nu_n, au_au, nu_nu, au_nu]; omega), by first | omega | (simp (decide := true) only [au_1, nu_2, au_lt, nu_lt, aw_e, nw_e, au_s, au_n, nu_s, nu_n, au_au, nu_nu, au_nu]; omega)⟩ ?_
  -- at 9: .if_icmp .gt 7
  refine w_icmp_gt (pc' := 12) (tgt := 16) dX0_canMake_9 rfl rfl (fun g => ?_) (fun g => ?_)
  · refine w_iconst (pc' := 17) dX0_canMake_16 rfl (by decide) ?_
    -- at 17: .ireturn
    refine w_zreturn dX0_canMake_17 rfl (by first | exact Or.inl rfl | exact Or.inr rfl | omega) ?_
    exact h0 (by omega)
  · refine w_iconst (pc' := 13) dX0_canMake_12 rfl (by decide) ?_
    refine w_goto (tgt := 17) dX0_canMake_13 rfl ?_
    -- at 17: .ireturn
    refine w_zreturn dX0_canMake_17 rfl (by first | exact Or.inl rfl | exact Or.inr rfl | omega) ?_
    exact h1 (by omega)
end
