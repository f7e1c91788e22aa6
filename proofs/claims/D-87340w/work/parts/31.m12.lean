set_option maxRecDepth 10000
def full (σ : MS) (p : Int) : Prop := 0 < σ.2 11 p ∧ 0 < (σ.2 6 (rw_ σ p 0)) ∧ ∀ i, 0 ≤ i → i < σ.2 11 p → (σ.2 7 (rw_ σ p i)) = 0 ∧ (σ.2 6 (rw_ σ p i)) = (σ.2 6 (rw_ σ p 0))
def wd (σ : MS) (p : Int) : Int := (σ.2 6 (rw_ σ p 0))
def mcl (σ : MS) (p m i j : Int) : Int := mvd σ (ca_ σ p (cfI m (σ.2 11 p) i j) (cfJ m (wd σ p) i j)) m
def imv (σ : MS) (p m q : Int) : Prop := (mvR m (σ.2 11 p) (wd σ p)) = σ.2 11 q ∧ (mvC m (σ.2 11 p) (wd σ p)) = wd σ q ∧ ∀ i j, 0 ≤ i → i < (mvR m (σ.2 11 p) (wd σ p)) → 0 ≤ j → j < (mvC m (σ.2 11 p) (wd σ p)) → mcl σ p m i j = ca_ σ q i j
def fnd (σ : MS) (p q i j m : Int) : Prop := ∀ a b, 0 ≤ a → a < (mvR m (σ.2 11 q) (wd σ q)) → 0 ≤ b → b < (mvC m (σ.2 11 q) (wd σ q)) → hs_ σ p (i + a) (j + b) ∧ ca_ σ p (i + a) (j + b) = mcl σ q m a b
noncomputable def kbt (σ : MS) (p : Int) : Nat → Int
  | 0 => 0
  | m + 1 => ic (imv σ p m p) (bOr (kbt σ p m) (bShl 1 m)) (kbt σ p m)
noncomputable def aKept (σ : MS) (p : Int) : Int := ic (0 ≤ p ∧ p < σ.1 12) (ic (full σ p) (kbt σ p 8) 0) (-1)
noncomputable def aCong (σ : MS) (p q : Int) : Int := ic ((0 ≤ p ∧ p < σ.1 12) ∧ (0 ≤ q ∧ q < σ.1 12) ∧ full σ p ∧ full σ q) (fi (fun m => imv σ p m q) 8) (-1)
/-- finds ahead of place t (8 times the cell and the move) of row i -/
noncomputable def nFnd (σ : MS) (p q i t : Int) : Int := sm (fun i => sm (fun t => b1 (fnd σ p q i ((σ.2 7 (rw_ σ p i)) + t / 8) (t % 8))) (8 * (σ.2 6 (rw_ σ p i)))) i + sm (fun t => b1 (fnd σ p q i ((σ.2 7 (rw_ σ p i)) + t / 8) (t % 8))) t
noncomputable def aFind (σ : MS) (p q k : Int) : Int := ic ((0 ≤ p ∧ p < σ.1 12) ∧ (0 ≤ q ∧ q < σ.1 12) ∧ full σ q ∧ 0 ≤ k) (fi2 (fun i t => fnd σ p q i ((σ.2 7 (rw_ σ p i)) + t / 8) (t % 8) ∧ nFnd σ p q i t = k) (σ.2 11 p) (fun i => 8 * (σ.2 6 (rw_ σ p i))) (fun i t => 1000 * i + 10 * (t / 8) + t % 8) (-1)) (-1)
theorem full_wd {σ : MS} {p : Int} (hR : rok σ) (hP : pok σ) (hp : 0 ≤ p ∧ p < σ.1 12) (hf : full σ p) : (1 ≤ σ.2 11 p ∧ σ.2 11 p ≤ 60) ∧ (1 ≤ wd σ p ∧ wd σ p ≤ 60) ∧ ∀ i j, hs_ σ p i j ↔ (0 ≤ i ∧ i < σ.2 11 p) ∧ 0 ≤ j ∧ j < wd σ p := by
  obtain ⟨f1, f2, f3⟩ := hf
  have hM := (hP.2 p hp.1 hp.2).1
  have h0 := (prow hR hP hp (by omega) f1).2.1
  refine ⟨by omega, ⟨f2, h0.2⟩, fun i j => ?_⟩
  unfold hs_ wd
  by_cases h : 0 ≤ i ∧ i < σ.2 11 p
  · obtain ⟨e1, e2⟩ := f3 i h.1 h.2
    rw [e1, e2]
    omega
  · constructor
    · intro z; exact absurd ⟨z.1, z.2.1⟩ h
    · intro z; exact absurd z.1 h
section
variable {d : Nat} {K : Option XV → GH → Prop} {G0 G : GH} {bc bs : Nat} {σ : MS} {M : tv_M} {pc : Nat} {L : List (Option XV)} {st : List XV}
theorem c_X1_isFull {p : Int} (hR : rok σ) (hP : pok σ) (hp : 0 ≤ p ∧ p < σ.1 12) (h1 : full σ p → K (some (xI 1)) (ov σ G0)) (h0 : ¬ full σ p → K (some (xI 0)) (ov σ G0)) : tvW mX1_isFull (d + 1) K 0 [some (xR mR), some (xI p), none, none] [] (ov σ G0) bc bs := by
  have hM := (hP.2 p hp.1 hp.2).1
  have hp1 := hP.1
  have no : ¬ full σ p → ∀ x3, tvW mX1_isFull (d + 1) K 31 [some (xR mR), some (xI p), some (xI 0), x3] [] (ov σ G0) bc bs := by
    intro q x3
    refine w_iload_n (pc' := 32) dX1_isFull_31 rfl rfl ?_
    -- at 32: .ifCond .eq 64
    try simp (decide := true) only [au_1, nu_2, au_lt, nu_lt, aw_e, nw_e, au_s, au_n, nu_s, nu_n, au_au, nu_nu, au_nu]
    refine w_if_eq (pc' := 35) (tgt := 96) dX1_isFull_32 rfl rfl (fun h_ => ?_) (fun h_ => False.elim (by first | omega | (simp (decide := true) only [au_1, nu_2, au_lt, nu_lt, aw_e, nw_e, au_s, au_n, nu_s, nu_n, au_au, nu_nu, au_nu] at h_; omega)))
    refine w_iload_n (pc' := 97) dX1_isFull_96 rfl rfl ?_
    -- at 97: .ireturn
    try simp (decide := true) only [au_1, nu_2, au_lt, nu_lt, aw_e, nw_e, au_s, au_n, nu_s, nu_n, au_au, nu_nu, au_nu]
    refine w_zreturn dX1_isFull_97 rfl (by first | exact Or.inl rfl | exact Or.inr rfl | omega) ?_
    exact h0 q
  have yes : 0 < σ.2 11 p → 0 < (σ.2 6 (rw_ σ p 0)) → tvW mX1_isFull (d + 1) K 23 [some (xR mR), some (xI p), none, none] [] (ov σ G0) bc bs := by
    intro f1 f2
    have z0 := prow hR hP hp (i := 0) (by omega) f1
    refine w_iconst (pc' := 24) dX1_isFull_23 rfl (by decide) ?_
    refine w_goto (tgt := 28) dX1_isFull_24 rfl ?_
    refine w_ist2 (pc' := 29) dX1_isFull_28 rfl rfl ?_
    refine w_iconst (pc' := 30) dX1_isFull_29 rfl (by decide) ?_
    refine w_ist3 (pc' := 31) dX1_isFull_30 rfl rfl ?_
    -- at 31: .iload_n 2
    try simp (decide := true) only [au_1, nu_2, au_lt, nu_lt, aw_e, nw_e, au_s, au_n, nu_s, nu_n, au_au, nu_nu, au_nu]
    refine up (T := fun i => (∀ i', 0 ≤ i' → i' < i → (σ.2 7 (rw_ σ p i')) = 0 ∧ (σ.2 6 (rw_ σ p i')) = (σ.2 6 (rw_ σ p 0))) → tvW mX1_isFull (d + 1) K 31 [some (xR mR), some (xI p), some (xI 1), some (xI i)] [] (ov σ G0) bc bs) (σ.2 11 p) hM.1 (fun hn => ?_) (fun i i0 i1 ih hn => ?_) (fun i' a b => by omega)
    · refine w_iload_n (pc' := 32) dX1_isFull_31 rfl rfl ?_
      -- at 32: .ifCond .eq 64
      try simp (decide := true) only [au_1, nu_2, au_lt, nu_lt, aw_e, nw_e, au_s, au_n, nu_s, nu_n, au_au, nu_nu, au_nu]
      refine w_if_eq (pc' := 35) (tgt := 96) dX1_isFull_32 rfl rfl (fun h_ => False.elim (by first | omega | (simp (decide := true) only [au_1, nu_2, au_lt, nu_lt, aw_e, nw_e, au_s, au_n, nu_s, nu_n, au_au, nu_nu, au_nu] at h_; omega))) (fun h_ => ?_)
      refine w_iload_n (pc' := 36) dX1_isFull_35 rfl rfl ?_
      refine w_aload_n (pc' := 37) dX1_isFull_36 rfl rfl ?_
      refine w_mga 11 (pc' := 40) dX1_isFull_37 rfl fX1_40_1 rfl ?_
      refine w_iload_n (pc' := 41) dX1_isFull_40 rfl rfl ?_
      refine w_mild (pc' := 42) dX1_isFull_41 rfl rfl (by first | omega | (simp (decide := true) only [au_1, nu_2, au_lt, nu_lt, aw_e, nw_e, au_s, au_n, nu_s, nu_n, au_au, nu_nu, au_nu]; omega)) (by first | omega | (simp (decide := true) only [au_1, nu_2, au_lt, nu_lt, aw_e, nw_e, au_s, au_n, nu_s, nu_n, au_au, nu_nu, au_nu]; omega)) ?_
      -- at 42: .if_icmp .ge 54
      try simp (decide := true) only [au_1, nu_2, au_lt, nu_lt, aw_e, nw_e, au_s, au_n, nu_s, nu_n, au_au, nu_nu, au_nu]
      refine w_icmp_ge (pc' := 45) (tgt := 96) dX1_isFull_42 rfl rfl (fun h_ => ?_) (fun h_ => False.elim (by first | omega | (simp (decide := true) only [au_1, nu_2, au_lt, nu_lt, aw_e, nw_e, au_s, au_n, nu_s, nu_n, au_au, nu_nu, au_nu] at h_; omega)))
      refine w_iload_n (pc' := 97) dX1_isFull_96 rfl rfl ?_
      -- at 97: .ireturn
      try simp (decide := true) only [au_1, nu_2, au_lt, nu_lt, aw_e, nw_e, au_s, au_n, nu_s, nu_n, au_au, nu_nu, au_nu]
      refine w_zreturn dX1_isFull_97 rfl (by first | exact Or.inl rfl | exact Or.inr rfl | omega) ?_
      exact h1 ⟨f1, f2, hn⟩
    · obtain ⟨b1r, b2, b3, b4, b5, b6⟩ := prow hR hP hp i0 i1
      refine w_iload_n (pc' := 32) dX1_isFull_31 rfl rfl ?_
      -- at 32: .ifCond .eq 64
      try simp (decide := true) only [au_1, nu_2, au_lt, nu_lt, aw_e, nw_e, au_s, au_n, nu_s, nu_n, au_au, nu_nu, au_nu]
      refine w_if_eq (pc' := 35) (tgt := 96) dX1_isFull_32 rfl rfl (fun h_ => False.elim (by first | omega | (simp (decide := true) only [au_1, nu_2, au_lt, nu_lt, aw_e, nw_e, au_s, au_n, nu_s, nu_n, au_au, nu_nu, au_nu] at h_; omega))) (fun h_ => ?_)
      refine w_iload_n (pc' := 36) dX1_isFull_35 rfl rfl ?_
      refine w_aload_n (pc' := 37) dX1_isFull_36 rfl rfl ?_
      refine w_mga 11 (pc' := 40) dX1_isFull_37 rfl fX1_40_1 rfl ?_
      refine w_iload_n (pc' := 41) dX1_isFull_40 rfl rfl ?_
      refine w_mild (pc' := 42) dX1_isFull_41 rfl rfl (by first | omega | (simp (decide := true) only [au_1, nu_2, au_lt, nu_lt, aw_e, nw_e, au_s, au_n, nu_s, nu_n, au_au, nu_nu, au_nu]; omega)) (by first | omega | (simp (decide := true) only [au_1, nu_2, au_lt, nu_lt, aw_e, nw_e, au_s, au_n, nu_s, nu_n, au_au, nu_nu, au_nu]; omega)) ?_
      -- at 42: .if_icmp .ge 54
      try simp (decide := true) only [au_1, nu_2, au_lt, nu_lt, aw_e, nw_e, au_s, au_n, nu_s, nu_n, au_au, nu_nu, au_nu]
      refine w_icmp_ge (pc' := 45) (tgt := 96) dX1_isFull_42 rfl rfl (fun h_ => False.elim (by first | omega | (simp (decide := true) only [au_1, nu_2, au_lt, nu_lt, aw_e, nw_e, au_s, au_n, nu_s, nu_n, au_au, nu_nu, au_nu] at h_; omega))) (fun h_ => ?_)
      refine w_aload_n (pc' := 46) dX1_isFull_45 rfl rfl ?_
      refine w_mga 7 (pc' := 49) dX1_isFull_46 rfl fX1_30_1 rfl ?_
      refine w_aload_n (pc' := 50) dX1_isFull_49 rfl rfl ?_
      refine w_iload_n (pc' := 51) dX1_isFull_50 rfl rfl ?_
      refine w_iload_n (pc' := 52) dX1_isFull_51 rfl rfl ?_
      -- at 52: .invokevirtual 175
      try simp (decide := true) only [au_1, nu_2, au_lt, nu_lt, aw_e, nw_e, au_s, au_n, nu_s, nu_n, au_au, nu_nu, au_nu]
      refine w_callV2 (pc' := 55) (mc := 0) (ms := 0) dX1_isFull_52 rfl tX1_rowOf q1302 rfl rfl qs44 q1300 ov_o rfl (Nat.le_of_ble_eq_true rfl) (Nat.le_of_ble_eq_true rfl) ?_
      refine c_X1_rowOf b5 b4 ?_
      refine w_p1 ?_
      refine w_mild (pc' := 56) dX1_isFull_55 rfl rfl (by first | omega | (simp (decide := true) only [au_1, nu_2, au_lt, nu_lt, aw_e, nw_e, au_s, au_n, nu_s, nu_n, au_au, nu_nu, au_nu]; omega)) (by first | omega | (simp (decide := true) only [au_1, nu_2, au_lt, nu_lt, aw_e, nw_e, au_s, au_n, nu_s, nu_n, au_au, nu_nu, au_nu]; omega)) ?_
      -- at 56: .ifCond .ne 32
      try simp (decide := true) only [au_1, nu_2, au_lt, nu_lt, aw_e, nw_e, au_s, au_n, nu_s, nu_n, au_au, nu_nu, au_nu]
      refine w_if_ne (pc' := 59) (tgt := 88) dX1_isFull_56 rfl rfl (fun g => ?_) (fun g => ?_)
      · refine w_iconst (pc' := 89) dX1_isFull_88 rfl (by decide) ?_
        refine w_ist2 (pc' := 90) dX1_isFull_89 rfl rfl ?_
        refine w_inc3 (pc' := 93) dX1_isFull_90 rfl rfl ⟨by first | omega | (simp (decide := true) only [au_1, nu_2, au_lt, nu_lt, aw_e, nw_e, au_s, au_n, nu_s, nu_n, au_au, nu_nu, au_nu]; omega), by first | omega | (simp (decide := true) only [au_1, nu_2, au_lt, nu_lt, aw_e, nw_e, au_s, au_n, nu_s, nu_n, au_au, nu_nu, au_nu]; omega)⟩ ?_
        refine w_goto (tgt := 31) dX1_isFull_93 rfl ?_
        -- at 31: .iload_n 2
        try simp (decide := true) only [au_1, nu_2, au_lt, nu_lt, aw_e, nw_e, au_s, au_n, nu_s, nu_n, au_au, nu_nu, au_nu]
        exact no (fun z => g (z.2.2 i i0 i1).1) _
      · refine w_aload_n (pc' := 60) dX1_isFull_59 rfl rfl ?_
        refine w_mga 6 (pc' := 63) dX1_isFull_60 rfl fX1_27_1 rfl ?_
        refine w_aload_n (pc' := 64) dX1_isFull_63 rfl rfl ?_
        refine w_iload_n (pc' := 65) dX1_isFull_64 rfl rfl ?_
        refine w_iload_n (pc' := 66) dX1_isFull_65 rfl rfl ?_
        -- at 66: .invokevirtual 175
        try simp (decide := true) only [au_1, nu_2, au_lt, nu_lt, aw_e, nw_e, au_s, au_n, nu_s, nu_n, au_au, nu_nu, au_nu]
        refine w_callV2 (pc' := 69) (mc := 0) (ms := 0) dX1_isFull_66 rfl tX1_rowOf q1302 rfl rfl qs44 q1300 ov_o rfl (Nat.le_of_ble_eq_true rfl) (Nat.le_of_ble_eq_true rfl) ?_
        refine c_X1_rowOf b5 b4 ?_
        refine w_p1 ?_
        refine w_mild (pc' := 70) dX1_isFull_69 rfl rfl (by first | omega | (simp (decide := true) only [au_1, nu_2, au_lt, nu_lt, aw_e, nw_e, au_s, au_n, nu_s, nu_n, au_au, nu_nu, au_nu]; omega)) (by first | omega | (simp (decide := true) only [au_1, nu_2, au_lt, nu_lt, aw_e, nw_e, au_s, au_n, nu_s, nu_n, au_au, nu_nu, au_nu]; omega)) ?_
        refine w_aload_n (pc' := 71) dX1_isFull_70 rfl rfl ?_
        refine w_mga 6 (pc' := 74) dX1_isFull_71 rfl fX1_27_1 rfl ?_
        refine w_aload_n (pc' := 75) dX1_isFull_74 rfl rfl ?_
        refine w_iload_n (pc' := 76) dX1_isFull_75 rfl rfl ?_
        refine w_iconst (pc' := 77) dX1_isFull_76 rfl (by decide) ?_
        -- at 77: .invokevirtual 175
        try simp (decide := true) only [au_1, nu_2, au_lt, nu_lt, aw_e, nw_e, au_s, au_n, nu_s, nu_n, au_au, nu_nu, au_nu]
        refine w_callV2 (pc' := 80) (mc := 0) (ms := 0) dX1_isFull_77 rfl tX1_rowOf q1302 rfl rfl qs44 q1300 ov_o rfl (Nat.le_of_ble_eq_true rfl) (Nat.le_of_ble_eq_true rfl) ?_
        refine c_X1_rowOf b5 ⟨by omega, by omega⟩ ?_
        refine w_p1 ?_
        refine w_mild (pc' := 81) dX1_isFull_80 rfl rfl (by first | omega | (simp (decide := true) only [au_1, nu_2, au_lt, nu_lt, aw_e, nw_e, au_s, au_n, nu_s, nu_n, au_au, nu_nu, au_nu]; omega)) (by first | omega | (simp (decide := true) only [au_1, nu_2, au_lt, nu_lt, aw_e, nw_e, au_s, au_n, nu_s, nu_n, au_au, nu_nu, au_nu]; omega)) ?_
        -- at 81: .if_icmp .ne 7
        try simp (decide := true) only [au_1, nu_2, au_lt, nu_lt, aw_e, nw_e, au_s, au_n, nu_s, nu_n, au_au, nu_nu, au_nu]
        refine w_icmp_ne (pc' := 84) (tgt := 88) dX1_isFull_81 rfl rfl (fun g2 => ?_) (fun g2 => ?_)
        · refine w_iconst (pc' := 89) dX1_isFull_88 rfl (by decide) ?_
          refine w_ist2 (pc' := 90) dX1_isFull_89 rfl rfl ?_
          refine w_inc3 (pc' := 93) dX1_isFull_90 rfl rfl ⟨by first | omega | (simp (decide := true) only [au_1, nu_2, au_lt, nu_lt, aw_e, nw_e, au_s, au_n, nu_s, nu_n, au_au, nu_nu, au_nu]; omega), by first | omega | (simp (decide := true) only [au_1, nu_2, au_lt, nu_lt, aw_e, nw_e, au_s, au_n, nu_s, nu_n, au_au, nu_nu, au_nu]; omega)⟩ ?_
          refine w_goto (tgt := 31) dX1_isFull_93 rfl ?_
          -- at 31: .iload_n 2
          try simp (decide := true) only [au_1, nu_2, au_lt, nu_lt, aw_e, nw_e, au_s, au_n, nu_s, nu_n, au_au, nu_nu, au_nu]
          exact no (fun z => g2 (z.2.2 i i0 i1).2) _
        · refine w_iconst (pc' := 85) dX1_isFull_84 rfl (by decide) ?_
          refine w_goto (tgt := 89) dX1_isFull_85 rfl ?_
          refine w_ist2 (pc' := 90) dX1_isFull_89 rfl rfl ?_
          refine w_inc3 (pc' := 93) dX1_isFull_90 rfl rfl ⟨by first | omega | (simp (decide := true) only [au_1, nu_2, au_lt, nu_lt, aw_e, nw_e, au_s, au_n, nu_s, nu_n, au_au, nu_nu, au_nu]; omega), by first | omega | (simp (decide := true) only [au_1, nu_2, au_lt, nu_lt, aw_e, nw_e, au_s, au_n, nu_s, nu_n, au_au, nu_nu, au_nu]; omega)⟩ ?_
          refine w_goto (tgt := 31) dX1_isFull_93 rfl ?_
          -- at 31: .iload_n 2
          try simp (decide := true) only [au_1, nu_2, au_lt, nu_lt, aw_e, nw_e, au_s, au_n, nu_s, nu_n, au_au, nu_nu, au_nu]
          refine ih (fun i' q0 q1 => ?_)
          by_cases e : i' = i
          · rw [e]; exact ⟨g, g2⟩
          · exact hn i' q0 (by omega)
  refine w_aload_n (pc' := 1) dX1_isFull_0 rfl rfl ?_
  refine w_mga 11 (pc' := 4) dX1_isFull_1 rfl fX1_40_1 rfl ?_
  refine w_iload_n (pc' := 5) dX1_isFull_4 rfl rfl ?_
  refine w_mild (pc' := 6) dX1_isFull_5 rfl rfl (by first | omega | (simp (decide := true) only [au_1, nu_2, au_lt, nu_lt, aw_e, nw_e, au_s, au_n, nu_s, nu_n, au_au, nu_nu, au_nu]; omega)) (by first | omega | (simp (decide := true) only [au_1, nu_2, au_lt, nu_lt, aw_e, nw_e, au_s, au_n, nu_s, nu_n, au_au, nu_nu, au_nu]; omega)) ?_
  -- at 6: .ifCond .le 21
  try simp (decide := true) only [au_1, nu_2, au_lt, nu_lt, aw_e, nw_e, au_s, au_n, nu_s, nu_n, au_au, nu_nu, au_nu]
  refine w_if_le (pc' := 9) (tgt := 27) dX1_isFull_6 rfl rfl (fun g => ?_) (fun g => ?_)
  · refine w_iconst (pc' := 28) dX1_isFull_27 rfl (by decide) ?_
    refine w_ist2 (pc' := 29) dX1_isFull_28 rfl rfl ?_
    refine w_iconst (pc' := 30) dX1_isFull_29 rfl (by decide) ?_
    refine w_ist3 (pc' := 31) dX1_isFull_30 rfl rfl ?_
    -- at 31: .iload_n 2
    try simp (decide := true) only [au_1, nu_2, au_lt, nu_lt, aw_e, nw_e, au_s, au_n, nu_s, nu_n, au_au, nu_nu, au_nu]
    exact no (fun z => by have := z.1; omega) _
  · have z0 := prow hR hP hp (i := 0) (by omega) (by omega)
    refine w_aload_n (pc' := 10) dX1_isFull_9 rfl rfl ?_
    refine w_mga 6 (pc' := 13) dX1_isFull_10 rfl fX1_27_1 rfl ?_
    refine w_aload_n (pc' := 14) dX1_isFull_13 rfl rfl ?_
    refine w_iload_n (pc' := 15) dX1_isFull_14 rfl rfl ?_
    refine w_iconst (pc' := 16) dX1_isFull_15 rfl (by decide) ?_
    -- at 16: .invokevirtual 175
    try simp (decide := true) only [au_1, nu_2, au_lt, nu_lt, aw_e, nw_e, au_s, au_n, nu_s, nu_n, au_au, nu_nu, au_nu]
    refine w_callV2 (pc' := 19) (mc := 0) (ms := 0) dX1_isFull_16 rfl tX1_rowOf q1302 rfl rfl qs44 q1300 ov_o rfl (Nat.le_of_ble_eq_true rfl) (Nat.le_of_ble_eq_true rfl) ?_
    refine c_X1_rowOf ⟨by omega, by omega⟩ ⟨by omega, by omega⟩ ?_
    refine w_p1 ?_
    refine w_mild (pc' := 20) dX1_isFull_19 rfl rfl (by first | omega | (simp (decide := true) only [au_1, nu_2, au_lt, nu_lt, aw_e, nw_e, au_s, au_n, nu_s, nu_n, au_au, nu_nu, au_nu]; omega)) (by first | omega | (simp (decide := true) only [au_1, nu_2, au_lt, nu_lt, aw_e, nw_e, au_s, au_n, nu_s, nu_n, au_au, nu_nu, au_nu]; omega)) ?_
    -- at 20: .ifCond .le 7
    try simp (decide := true) only [au_1, nu_2, au_lt, nu_lt, aw_e, nw_e, au_s, au_n, nu_s, nu_n, au_au, nu_nu, au_nu]
    refine w_if_le (pc' := 23) (tgt := 27) dX1_isFull_20 rfl rfl (fun g2 => ?_) (fun g2 => ?_)
    · refine w_iconst (pc' := 28) dX1_isFull_27 rfl (by decide) ?_
      refine w_ist2 (pc' := 29) dX1_isFull_28 rfl rfl ?_
      refine w_iconst (pc' := 30) dX1_isFull_29 rfl (by decide) ?_
      refine w_ist3 (pc' := 31) dX1_isFull_30 rfl rfl ?_
      -- at 31: .iload_n 2
      try simp (decide := true) only [au_1, nu_2, au_lt, nu_lt, aw_e, nw_e, au_s, au_n, nu_s, nu_n, au_au, nu_nu, au_nu]
      exact no (fun z => by have := z.2.1; omega) _
    · exact yes (by omega) (by omega)
theorem c_X1_wide {p : Int} (hR : rok σ) (hP : pok σ) (hp : 0 ≤ p ∧ p < σ.1 12) (h0 : 0 < σ.2 11 p) (h : K (some (xI (wd σ p))) (ov σ G0)) : tvW mX1_wide (d + 1) K 0 [some (xR mR), some (xI p)] [] (ov σ G0) bc bs := by
  have z0 := prow hR hP hp (i := 0) (by omega) h0
  refine w_aload_n (pc' := 1) dX1_wide_0 rfl rfl ?_
  refine w_mga 6 (pc' := 4) dX1_wide_1 rfl fX1_27_1 rfl ?_
  refine w_aload_n (pc' := 5) dX1_wide_4 rfl rfl ?_
  refine w_iload_n (pc' := 6) dX1_wide_5 rfl rfl ?_
  refine w_iconst (pc' := 7) dX1_wide_6 rfl (by decide) ?_
  -- at 7: .invokevirtual 175
  try simp (decide := true) only [au_1, nu_2, au_lt, nu_lt, aw_e, nw_e, au_s, au_n, nu_s, nu_n, au_au, nu_nu, au_nu]
  refine w_callV2 (pc' := 10) (mc := 0) (ms := 0) dX1_wide_7 rfl tX1_rowOf q1302 rfl rfl qs44 q1300 ov_o rfl (Nat.le_of_ble_eq_true rfl) (Nat.le_of_ble_eq_true rfl) ?_
  refine c_X1_rowOf ⟨by omega, by omega⟩ ⟨by omega, by omega⟩ ?_
  refine w_p1 ?_
  refine w_mild (pc' := 11) dX1_wide_10 rfl rfl (by first | omega | (simp (decide := true) only [au_1, nu_2, au_lt, nu_lt, aw_e, nw_e, au_s, au_n, nu_s, nu_n, au_au, nu_nu, au_nu]; omega)) (by first | omega | (simp (decide := true) only [au_1, nu_2, au_lt, nu_lt, aw_e, nw_e, au_s, au_n, nu_s, nu_n, au_au, nu_nu, au_nu]; omega)) ?_
  -- at 11: .ireturn
  try simp (decide := true) only [au_1, nu_2, au_lt, nu_lt, aw_e, nw_e, au_s, au_n, nu_s, nu_n, au_au, nu_nu, au_nu]
  refine w_ireturn dX1_wide_11 rfl ?_
  exact h
theorem c_X1_movedCell {p m i j : Int} (hK : kok σ) (hR : rok σ) (hP : pok σ) (hp : 0 ≤ p ∧ p < σ.1 12) (hf : full σ p) (hm : 0 ≤ m ∧ m < 8) (hi : 0 ≤ i ∧ i < (mvR m (σ.2 11 p) (wd σ p))) (hj : 0 ≤ j ∧ j < (mvC m (σ.2 11 p) (wd σ p))) (h : ∀ x y, K (some (xI (mcl σ p m i j))) (ov (nu (nu σ 18 x) 19 y) G0)) : tvW mX1_movedCell (d + 3) K 0 [some (xR mR), some (xI p), some (xI m), some (xI i), some (xI j)] [] (ov σ G0) bc bs := by
  obtain ⟨w1, w2, w3⟩ := full_wd hR hP hp hf
  have hp1 := hP.1
  have hcf := cf_r hm hi.1 hi.2 hj.1 hj.2
  have hij : i < 60 ∧ j < 60 := by
    have := hi.2; have := hj.2
    unfold mvR at *; unfold mvC at *
    split at * <;> omega
  have hs : hs_ σ p (cfI m (σ.2 11 p) i j) (cfJ m (wd σ p) i j) := (w3 _ _).mpr ⟨hcf.1, hcf.2⟩
  refine w_mok (fun _ hok => ?_)
  have hrg : rg (ca_ σ p (cfI m (σ.2 11 p) i j) (cfJ m (wd σ p) i j)) := hok 8 0 360000 rfl _
  refine w_aload_n (pc' := 1) dX1_movedCell_0 rfl rfl ?_
  refine w_iload_n (pc' := 2) dX1_movedCell_1 rfl rfl ?_
  refine w_aload_n (pc' := 3) dX1_movedCell_2 rfl rfl ?_
  refine w_mga 11 (pc' := 6) dX1_movedCell_3 rfl fX1_40_1 rfl ?_
  refine w_iload_n (pc' := 7) dX1_movedCell_6 rfl rfl ?_
  refine w_mild (pc' := 8) dX1_movedCell_7 rfl rfl (by first | omega | (simp (decide := true) only [au_1, nu_2, au_lt, nu_lt, aw_e, nw_e, au_s, au_n, nu_s, nu_n, au_au, nu_nu, au_nu]; omega)) (by first | omega | (simp (decide := true) only [au_1, nu_2, au_lt, nu_lt, aw_e, nw_e, au_s, au_n, nu_s, nu_n, au_au, nu_nu, au_nu]; omega)) ?_
  refine w_aload_n (pc' := 9) dX1_movedCell_8 rfl rfl ?_
  refine w_iload_n (pc' := 10) dX1_movedCell_9 rfl rfl ?_
  -- at 10: .invokevirtual 269
  try simp (decide := true) only [au_1, nu_2, au_lt, nu_lt, aw_e, nw_e, au_s, au_n, nu_s, nu_n, au_au, nu_nu, au_nu]
  refine w_callV1 (pc' := 13) (mc := 0) (ms := 0) dX1_movedCell_10 rfl tX1_wide q1469 rfl rfl qs62 q1467 ov_o rfl (Nat.le_of_ble_eq_true rfl) (Nat.le_of_ble_eq_true rfl) ?_
  refine c_X1_wide hR hP hp (by omega) ?_
  refine w_p1 ?_
  refine w_iload_n (pc' := 14) dX1_movedCell_13 rfl rfl ?_
  refine w_iload (pc' := 16) dX1_movedCell_14 rfl rfl ?_
  -- at 16: .invokevirtual 227
  try simp (decide := true) only [au_1, nu_2, au_lt, nu_lt, aw_e, nw_e, au_s, au_n, nu_s, nu_n, au_au, nu_nu, au_nu]
  refine w_callV5 (pc' := 19) (mc := 0) (ms := 0) dX1_movedCell_16 rfl tX1_comesFrom q1387 rfl rfl qs52 q1385 ov_o rfl (Nat.le_of_ble_eq_true rfl) (Nat.le_of_ble_eq_true rfl) ?_
  refine c_X1_comesFrom hm (by omega) (by omega) (by omega) (by omega) ?_
  refine w_p0 ?_
  refine w_aload_n (pc' := 20) dX1_movedCell_19 rfl rfl ?_
  refine w_aload_n (pc' := 21) dX1_movedCell_20 rfl rfl ?_
  refine w_iload_n (pc' := 22) dX1_movedCell_21 rfl rfl ?_
  refine w_aload_n (pc' := 23) dX1_movedCell_22 rfl rfl ?_
  refine w_mgi 18 (pc' := 26) dX1_movedCell_23 rfl fX1_215_1 rfl ?_
  refine w_aload_n (pc' := 27) dX1_movedCell_26 rfl rfl ?_
  refine w_mgi 19 (pc' := 30) dX1_movedCell_27 rfl fX1_218_1 rfl ?_
  -- at 30: .invokevirtual 212
  try simp (decide := true) only [au_1, nu_2, au_lt, nu_lt, aw_e, nw_e, au_s, au_n, nu_s, nu_n, au_au, nu_nu, au_nu]
  refine w_callV3 (pc' := 33) (mc := 0) (ms := 0) dX1_movedCell_30 rfl tX1_cellAt q1349 rfl rfl qs51 q1347 ov_o rfl (Nat.le_of_ble_eq_true rfl) (Nat.le_of_ble_eq_true rfl) ?_
  refine c_X1_cellAt (show rok _ from hR) (show pok _ from hP) hp (show hs_ _ _ _ _ from hs) ?_
  refine w_p1 ?_
  refine w_iload_n (pc' := 34) dX1_movedCell_33 rfl rfl ?_
  -- at 34: .invokevirtual 231
  try simp (decide := true) only [au_1, nu_2, au_lt, nu_lt, aw_e, nw_e, au_s, au_n, nu_s, nu_n, au_au, nu_nu, au_nu]
  refine w_callV2 (pc' := 37) (mc := 0) (ms := 0) dX1_movedCell_34 rfl tX1_moved q1391 rfl rfl qs53 q1389 ov_o rfl (Nat.le_of_ble_eq_true rfl) (Nat.le_of_ble_eq_true rfl) ?_
  refine c_X1_moved (show kok _ from hK) (show isC (σ.1 5) _ from ca_ok hR hP hp hs) hrg hm ?_
  refine w_p1 ?_
  refine w_ireturn dX1_movedCell_37 rfl ?_
  exact h _ _
/-- rows and columns of a moved one, as the code reckons them -/
theorem mRC {r c m : Int} : (bAnd m 1 = 0 → mvR m r c = r ∧ mvC m r c = c) ∧ (bAnd m 1 ≠ 0 → mvR m r c = c ∧ mvC m r c = r) := by
  rw [bAnd_1]
  unfold mvR mvC
  constructor
  · intro h; rw [if_pos h, if_pos h]; exact ⟨rfl, rfl⟩
  · intro h; rw [if_neg h, if_neg h]; exact ⟨rfl, rfl⟩
theorem c_X1_isMoved {p m q : Int} (hK : kok σ) (hR : rok σ) (hP : pok σ) (hp : 0 ≤ p ∧ p < σ.1 12) (hq : 0 ≤ q ∧ q < σ.1 12) (hf : full σ p) (hg : full σ q) (hm : 0 ≤ m ∧ m < 8) (h1 : imv σ p m q → ∀ x y, K (some (xI 1)) (ov (nu (nu σ 18 x) 19 y) G0)) (h0 : ¬ imv σ p m q → ∀ x y, K (some (xI 0)) (ov (nu (nu σ 18 x) 19 y) G0)) : tvW mX1_isMoved (d + 4) K 0 [some (xR mR), some (xI p), some (xI m), some (xI q), none, none, none, none] [] (ov σ G0) bc bs := by
  obtain ⟨w1, w2, w3⟩ := full_wd hR hP hp hf
  obtain ⟨v1, v2, v3⟩ := full_wd hR hP hq hg
  have hp1 := hP.1
  have hmR : 1 ≤ (mvR m (σ.2 11 p) (wd σ p)) ∧ (mvR m (σ.2 11 p) (wd σ p)) ≤ 60 := by unfold mvR; split <;> omega
  have hmC : 1 ≤ (mvC m (σ.2 11 p) (wd σ p)) ∧ (mvC m (σ.2 11 p) (wd σ p)) ≤ 60 := by unfold mvC; split <;> omega
  have hN := mlr (a := (mvR m (σ.2 11 p) (wd σ p))) (b := (mvC m (σ.2 11 p) (wd σ p))) (A := 60) (B := 60) (by omega) (by omega) (by omega) (by omega)
  have no : ¬ imv σ p m q → ∀ x y k, tvW mX1_isMoved (d + 4) K 75 [some (xR mR), some (xI p), some (xI m), some (xI q), some (xI (mvR m (σ.2 11 p) (wd σ p))), some (xI (mvC m (σ.2 11 p) (wd σ p))), some (xI 0), k] [] (ov (nu (nu σ 18 x) 19 y) G0) bc bs := by
    intro z x y k
    refine w_iload (pc' := 77) dX1_isMoved_75 rfl rfl ?_
    -- at 77: .ifCond .eq 60
    try simp (decide := true) only [au_1, nu_2, au_lt, nu_lt, aw_e, nw_e, au_s, au_n, nu_s, nu_n, au_au, nu_nu, au_nu]
    refine w_if_eq (pc' := 80) (tgt := 137) dX1_isMoved_77 rfl rfl (fun h_ => ?_) (fun h_ => False.elim (by first | omega | (simp (decide := true) only [au_1, nu_2, au_lt, nu_lt, aw_e, nw_e, au_s, au_n, nu_s, nu_n, au_au, nu_nu, au_nu] at h_; omega)))
    refine w_iload (pc' := 139) dX1_isMoved_137 rfl rfl ?_
    -- at 139: .ireturn
    try simp (decide := true) only [au_1, nu_2, au_lt, nu_lt, aw_e, nw_e, au_s, au_n, nu_s, nu_n, au_au, nu_nu, au_nu]
    refine w_zreturn dX1_isMoved_139 rfl (by first | exact Or.inl rfl | exact Or.inr rfl | omega) ?_
    exact h0 z x y
  have e0 : (nu (nu σ 18 (σ.1 18)) 19 (σ.1 19)) = σ := by rw [nu_id, nu_id]
  have main : tvW mX1_isMoved (d + 4) K 44 [some (xR mR), some (xI p), some (xI m), some (xI q), some (xI (mvR m (σ.2 11 p) (wd σ p))), some (xI (mvC m (σ.2 11 p) (wd σ p))), none, none] [] (ov σ G0) bc bs := by
    have no1 := fun z => no z (σ.1 18) (σ.1 19)
    rw [e0] at no1
    refine w_iload (pc' := 46) dX1_isMoved_44 rfl rfl ?_
    refine w_aload_n (pc' := 47) dX1_isMoved_46 rfl rfl ?_
    refine w_mga 11 (pc' := 50) dX1_isMoved_47 rfl fX1_40_1 rfl ?_
    refine w_iload_n (pc' := 51) dX1_isMoved_50 rfl rfl ?_
    refine w_mild (pc' := 52) dX1_isMoved_51 rfl rfl (by first | omega | (simp (decide := true) only [au_1, nu_2, au_lt, nu_lt, aw_e, nw_e, au_s, au_n, nu_s, nu_n, au_au, nu_nu, au_nu]; omega)) (by first | omega | (simp (decide := true) only [au_1, nu_2, au_lt, nu_lt, aw_e, nw_e, au_s, au_n, nu_s, nu_n, au_au, nu_nu, au_nu]; omega)) ?_
    -- at 52: .if_icmp .ne 17
    try simp (decide := true) only [au_1, nu_2, au_lt, nu_lt, aw_e, nw_e, au_s, au_n, nu_s, nu_n, au_au, nu_nu, au_nu]
    refine w_icmp_ne (pc' := 55) (tgt := 69) dX1_isMoved_52 rfl rfl (fun g => ?_) (fun g => ?_)
    · refine w_iconst (pc' := 70) dX1_isMoved_69 rfl (by decide) ?_
      refine w_ist6 (pc' := 72) dX1_isMoved_70 rfl rfl ?_
      refine w_iconst (pc' := 73) dX1_isMoved_72 rfl (by decide) ?_
      refine w_ist7 (pc' := 75) dX1_isMoved_73 rfl rfl ?_
      -- at 75: .iload 6
      try simp (decide := true) only [au_1, nu_2, au_lt, nu_lt, aw_e, nw_e, au_s, au_n, nu_s, nu_n, au_au, nu_nu, au_nu]
      exact no1 (fun z => g z.1) _
    · refine w_iload (pc' := 57) dX1_isMoved_55 rfl rfl ?_
      refine w_aload_n (pc' := 58) dX1_isMoved_57 rfl rfl ?_
      refine w_iload_n (pc' := 59) dX1_isMoved_58 rfl rfl ?_
      -- at 59: .invokevirtual 269
      try simp (decide := true) only [au_1, nu_2, au_lt, nu_lt, aw_e, nw_e, au_s, au_n, nu_s, nu_n, au_au, nu_nu, au_nu]
      refine w_callV1 (pc' := 62) (mc := 0) (ms := 0) dX1_isMoved_59 rfl tX1_wide q1469 rfl rfl qs62 q1467 ov_o rfl (Nat.le_of_ble_eq_true rfl) (Nat.le_of_ble_eq_true rfl) ?_
      refine c_X1_wide hR hP hq (by omega) ?_
      refine w_p1 ?_
      refine w_icmp_ne (pc' := 65) (tgt := 69) dX1_isMoved_62 rfl rfl (fun g2 => ?_) (fun g2 => ?_)
      · refine w_iconst (pc' := 70) dX1_isMoved_69 rfl (by decide) ?_
        refine w_ist6 (pc' := 72) dX1_isMoved_70 rfl rfl ?_
        refine w_iconst (pc' := 73) dX1_isMoved_72 rfl (by decide) ?_
        refine w_ist7 (pc' := 75) dX1_isMoved_73 rfl rfl ?_
        -- at 75: .iload 6
        try simp (decide := true) only [au_1, nu_2, au_lt, nu_lt, aw_e, nw_e, au_s, au_n, nu_s, nu_n, au_au, nu_nu, au_nu]
        exact no1 (fun z => g2 z.2.1) _
      · refine w_iconst (pc' := 66) dX1_isMoved_65 rfl (by decide) ?_
        refine w_goto (tgt := 70) dX1_isMoved_66 rfl ?_
        refine w_ist6 (pc' := 72) dX1_isMoved_70 rfl rfl ?_
        refine w_iconst (pc' := 73) dX1_isMoved_72 rfl (by decide) ?_
        refine w_ist7 (pc' := 75) dX1_isMoved_73 rfl rfl ?_
        -- at 75: .iload 6
        try simp (decide := true) only [au_1, nu_2, au_lt, nu_lt, aw_e, nw_e, au_s, au_n, nu_s, nu_n, au_au, nu_nu, au_nu]
        refine w_ms (τ := (nu (nu σ 18 (σ.1 18)) 19 (σ.1 19))) e0.symm ?_
        refine up (T := fun k => ∀ x y, (∀ k', 0 ≤ k' → k' < k → mcl σ p m (k' / (mvC m (σ.2 11 p) (wd σ p))) (k' % (mvC m (σ.2 11 p) (wd σ p))) = ca_ σ q (k' / (mvC m (σ.2 11 p) (wd σ p))) (k' % (mvC m (σ.2 11 p) (wd σ p)))) → tvW mX1_isMoved (d + 4) K 75 [some (xR mR), some (xI p), some (xI m), some (xI q), some (xI (mvR m (σ.2 11 p) (wd σ p))), some (xI (mvC m (σ.2 11 p) (wd σ p))), some (xI 1), some (xI k)] [] (ov (nu (nu σ 18 x) 19 y) G0) bc bs) ((mvR m (σ.2 11 p) (wd σ p)) * (mvC m (σ.2 11 p) (wd σ p))) hN.1 (fun x y hn => ?_) (fun k k0 k1 ih x y hn => ?_) _ _ (fun k' a b => by omega)
        · refine w_iload (pc' := 77) dX1_isMoved_75 rfl rfl ?_
          -- at 77: .ifCond .eq 60
          try simp (decide := true) only [au_1, nu_2, au_lt, nu_lt, aw_e, nw_e, au_s, au_n, nu_s, nu_n, au_au, nu_nu, au_nu]
          refine w_if_eq (pc' := 80) (tgt := 137) dX1_isMoved_77 rfl rfl (fun h_ => False.elim (by first | omega | (simp (decide := true) only [au_1, nu_2, au_lt, nu_lt, aw_e, nw_e, au_s, au_n, nu_s, nu_n, au_au, nu_nu, au_nu] at h_; omega))) (fun h_ => ?_)
          refine w_iload (pc' := 82) dX1_isMoved_80 rfl rfl ?_
          refine w_iload (pc' := 84) dX1_isMoved_82 rfl rfl ?_
          refine w_iload (pc' := 86) dX1_isMoved_84 rfl rfl ?_
          refine w_imul (pc' := 87) dX1_isMoved_86 rfl ⟨by first | omega | (simp (decide := true) only [au_1, nu_2, au_lt, nu_lt, aw_e, nw_e, au_s, au_n, nu_s, nu_n, au_au, nu_nu, au_nu]; omega), by first | omega | (simp (decide := true) only [au_1, nu_2, au_lt, nu_lt, aw_e, nw_e, au_s, au_n, nu_s, nu_n, au_au, nu_nu, au_nu]; omega)⟩ ?_
          -- at 87: .if_icmp .ge 50
          try simp (decide := true) only [au_1, nu_2, au_lt, nu_lt, aw_e, nw_e, au_s, au_n, nu_s, nu_n, au_au, nu_nu, au_nu]
          refine w_icmp_ge (pc' := 90) (tgt := 137) dX1_isMoved_87 rfl rfl (fun h_ => ?_) (fun h_ => False.elim (by first | omega | (simp (decide := true) only [au_1, nu_2, au_lt, nu_lt, aw_e, nw_e, au_s, au_n, nu_s, nu_n, au_au, nu_nu, au_nu] at h_; omega)))
          refine w_iload (pc' := 139) dX1_isMoved_137 rfl rfl ?_
          -- at 139: .ireturn
          try simp (decide := true) only [au_1, nu_2, au_lt, nu_lt, aw_e, nw_e, au_s, au_n, nu_s, nu_n, au_au, nu_nu, au_nu]
          refine w_zreturn dX1_isMoved_139 rfl (by first | exact Or.inl rfl | exact Or.inr rfl | omega) ?_
          refine h1 ⟨g, g2, fun i j i0 i1 j0 j1 => ?_⟩ x y
          have e := ixd (a := i) j0 j1
          have e2 := ixr i0 i1 j0 j1
          have := hn _ e2.1 e2.2
          rw [e.1, e.2] at this
          exact this
        · obtain ⟨⟨a0, a1⟩, ⟨b0, b1⟩, -⟩ := dvc (by omega) k0 k1
          have hsq : hs_ σ q (k / (mvC m (σ.2 11 p) (wd σ p))) (k % (mvC m (σ.2 11 p) (wd σ p))) := (v3 _ _).mpr ⟨⟨a0, by omega⟩, b0, by omega⟩
          refine w_iload (pc' := 77) dX1_isMoved_75 rfl rfl ?_
          -- at 77: .ifCond .eq 60
          try simp (decide := true) only [au_1, nu_2, au_lt, nu_lt, aw_e, nw_e, au_s, au_n, nu_s, nu_n, au_au, nu_nu, au_nu]
          refine w_if_eq (pc' := 80) (tgt := 137) dX1_isMoved_77 rfl rfl (fun h_ => False.elim (by first | omega | (simp (decide := true) only [au_1, nu_2, au_lt, nu_lt, aw_e, nw_e, au_s, au_n, nu_s, nu_n, au_au, nu_nu, au_nu] at h_; omega))) (fun h_ => ?_)
          refine w_iload (pc' := 82) dX1_isMoved_80 rfl rfl ?_
          refine w_iload (pc' := 84) dX1_isMoved_82 rfl rfl ?_
          refine w_iload (pc' := 86) dX1_isMoved_84 rfl rfl ?_
          refine w_imul (pc' := 87) dX1_isMoved_86 rfl ⟨by first | omega | (simp (decide := true) only [au_1, nu_2, au_lt, nu_lt, aw_e, nw_e, au_s, au_n, nu_s, nu_n, au_au, nu_nu, au_nu]; omega), by first | omega | (simp (decide := true) only [au_1, nu_2, au_lt, nu_lt, aw_e, nw_e, au_s, au_n, nu_s, nu_n, au_au, nu_nu, au_nu]; omega)⟩ ?_
          -- at 87: .if_icmp .ge 50
          try simp (decide := true) only [au_1, nu_2, au_lt, nu_lt, aw_e, nw_e, au_s, au_n, nu_s, nu_n, au_au, nu_nu, au_nu]
          refine w_icmp_ge (pc' := 90) (tgt := 137) dX1_isMoved_87 rfl rfl (fun h_ => False.elim (by first | omega | (simp (decide := true) only [au_1, nu_2, au_lt, nu_lt, aw_e, nw_e, au_s, au_n, nu_s, nu_n, au_au, nu_nu, au_nu] at h_; omega))) (fun h_ => ?_)
          refine w_aload_n (pc' := 91) dX1_isMoved_90 rfl rfl ?_
          refine w_iload_n (pc' := 92) dX1_isMoved_91 rfl rfl ?_
          refine w_iload_n (pc' := 93) dX1_isMoved_92 rfl rfl ?_
          refine w_iload (pc' := 95) dX1_isMoved_93 rfl rfl ?_
          refine w_iload (pc' := 97) dX1_isMoved_95 rfl rfl ?_
          refine w_idiv (pc' := 98) dX1_isMoved_97 rfl (by first | omega | (simp (decide := true) only [au_1, nu_2, au_lt, nu_lt, aw_e, nw_e, au_s, au_n, nu_s, nu_n, au_au, nu_nu, au_nu]; omega)) (by first | omega | (simp (decide := true) only [au_1, nu_2, au_lt, nu_lt, aw_e, nw_e, au_s, au_n, nu_s, nu_n, au_au, nu_nu, au_nu]; omega)) ?_
          refine w_iload (pc' := 100) dX1_isMoved_98 rfl rfl ?_
          refine w_iload (pc' := 102) dX1_isMoved_100 rfl rfl ?_
          refine w_irem (pc' := 103) dX1_isMoved_102 rfl (by first | omega | (simp (decide := true) only [au_1, nu_2, au_lt, nu_lt, aw_e, nw_e, au_s, au_n, nu_s, nu_n, au_au, nu_nu, au_nu]; omega)) (by first | omega | (simp (decide := true) only [au_1, nu_2, au_lt, nu_lt, aw_e, nw_e, au_s, au_n, nu_s, nu_n, au_au, nu_nu, au_nu]; omega)) ?_
          -- at 103: .invokevirtual 272
          try simp (decide := true) only [au_1, nu_2, au_lt, nu_lt, aw_e, nw_e, au_s, au_n, nu_s, nu_n, au_au, nu_nu, au_nu]
          refine w_callV4 (pc' := 106) (mc := 0) (ms := 0) dX1_isMoved_103 rfl tX1_movedCell q1473 rfl rfl qs63 q1471 ov_o rfl (Nat.le_of_ble_eq_true rfl) (Nat.le_of_ble_eq_true rfl) ?_
          refine c_X1_movedCell (show kok _ from hK) (show rok _ from hR) (show pok _ from hP) hp (show full _ p from hf) hm ⟨a0, a1⟩ ⟨b0, b1⟩ (fun x' y' => w_p1 ?_)
          refine w_st (st' := [xI (mcl σ p m (k / (mvC m (σ.2 11 p) (wd σ p))) (k % (mvC m (σ.2 11 p) (wd σ p))))]) rfl ?_
          try simp (decide := true) only [au_1, nu_2, au_lt, nu_lt, aw_e, nw_e, au_s, au_n, nu_s, nu_n, au_au, nu_nu, au_nu]
          refine w_aload_n (pc' := 107) dX1_isMoved_106 rfl rfl ?_
          refine w_iload_n (pc' := 108) dX1_isMoved_107 rfl rfl ?_
          refine w_iload (pc' := 110) dX1_isMoved_108 rfl rfl ?_
          refine w_iload (pc' := 112) dX1_isMoved_110 rfl rfl ?_
          refine w_idiv (pc' := 113) dX1_isMoved_112 rfl (by first | omega | (simp (decide := true) only [au_1, nu_2, au_lt, nu_lt, aw_e, nw_e, au_s, au_n, nu_s, nu_n, au_au, nu_nu, au_nu]; omega)) (by first | omega | (simp (decide := true) only [au_1, nu_2, au_lt, nu_lt, aw_e, nw_e, au_s, au_n, nu_s, nu_n, au_au, nu_nu, au_nu]; omega)) ?_
          refine w_iload (pc' := 115) dX1_isMoved_113 rfl rfl ?_
          refine w_iload (pc' := 117) dX1_isMoved_115 rfl rfl ?_
          refine w_irem (pc' := 118) dX1_isMoved_117 rfl (by first | omega | (simp (decide := true) only [au_1, nu_2, au_lt, nu_lt, aw_e, nw_e, au_s, au_n, nu_s, nu_n, au_au, nu_nu, au_nu]; omega)) (by first | omega | (simp (decide := true) only [au_1, nu_2, au_lt, nu_lt, aw_e, nw_e, au_s, au_n, nu_s, nu_n, au_au, nu_nu, au_nu]; omega)) ?_
          -- at 118: .invokevirtual 212
          try simp (decide := true) only [au_1, nu_2, au_lt, nu_lt, aw_e, nw_e, au_s, au_n, nu_s, nu_n, au_au, nu_nu, au_nu]
          refine w_callV3 (pc' := 121) (mc := 0) (ms := 0) dX1_isMoved_118 rfl tX1_cellAt q1349 rfl rfl qs51 q1347 ov_o rfl (Nat.le_of_ble_eq_true rfl) (Nat.le_of_ble_eq_true rfl) ?_
          refine c_X1_cellAt (show rok _ from hR) (show pok _ from hP) hq (show hs_ _ _ _ _ from hsq) ?_
          refine w_p1 ?_
          refine w_st (st' := [xI (ca_ σ q (k / (mvC m (σ.2 11 p) (wd σ p))) (k % (mvC m (σ.2 11 p) (wd σ p)))), xI (mcl σ p m (k / (mvC m (σ.2 11 p) (wd σ p))) (k % (mvC m (σ.2 11 p) (wd σ p))))]) rfl ?_
          refine w_icmp_ne (pc' := 124) (tgt := 128) dX1_isMoved_121 rfl rfl (fun g3 => ?_) (fun g3 => ?_)
          · refine w_iconst (pc' := 129) dX1_isMoved_128 rfl (by decide) ?_
            refine w_ist6 (pc' := 131) dX1_isMoved_129 rfl rfl ?_
            refine w_inc7 (pc' := 134) dX1_isMoved_131 rfl rfl ⟨by first | omega | (simp (decide := true) only [au_1, nu_2, au_lt, nu_lt, aw_e, nw_e, au_s, au_n, nu_s, nu_n, au_au, nu_nu, au_nu]; omega), by first | omega | (simp (decide := true) only [au_1, nu_2, au_lt, nu_lt, aw_e, nw_e, au_s, au_n, nu_s, nu_n, au_au, nu_nu, au_nu]; omega)⟩ ?_
            refine w_goto (tgt := 75) dX1_isMoved_134 rfl ?_
            -- at 75: .iload 6
            try simp (decide := true) only [au_1, nu_2, au_lt, nu_lt, aw_e, nw_e, au_s, au_n, nu_s, nu_n, au_au, nu_nu, au_nu]
            exact no (fun z => g3 (z.2.2 _ _ a0 a1 b0 b1)) _ _ _
          · refine w_iconst (pc' := 125) dX1_isMoved_124 rfl (by decide) ?_
            refine w_goto (tgt := 129) dX1_isMoved_125 rfl ?_
            refine w_ist6 (pc' := 131) dX1_isMoved_129 rfl rfl ?_
            refine w_inc7 (pc' := 134) dX1_isMoved_131 rfl rfl ⟨by first | omega | (simp (decide := true) only [au_1, nu_2, au_lt, nu_lt, aw_e, nw_e, au_s, au_n, nu_s, nu_n, au_au, nu_nu, au_nu]; omega), by first | omega | (simp (decide := true) only [au_1, nu_2, au_lt, nu_lt, aw_e, nw_e, au_s, au_n, nu_s, nu_n, au_au, nu_nu, au_nu]; omega)⟩ ?_
            refine w_goto (tgt := 75) dX1_isMoved_134 rfl ?_
            -- at 75: .iload 6
            try simp (decide := true) only [au_1, nu_2, au_lt, nu_lt, aw_e, nw_e, au_s, au_n, nu_s, nu_n, au_au, nu_nu, au_nu]
            refine ih _ _ (fun k' q0 q1 => ?_)
            by_cases e : k' = k
            · rw [e]; exact g3
            · exact hn k' q0 (by omega)
  refine w_iload_n (pc' := 1) dX1_isMoved_0 rfl rfl ?_
  refine w_iconst (pc' := 2) dX1_isMoved_1 rfl (by decide) ?_
  refine w_iand (pc' := 3) dX1_isMoved_2 rfl ?_
  -- at 3: .ifCond .ne 12
  try simp (decide := true) only [au_1, nu_2, au_lt, nu_lt, aw_e, nw_e, au_s, au_n, nu_s, nu_n, au_au, nu_nu, au_nu]
  refine w_if_ne (pc' := 6) (tgt := 15) dX1_isMoved_3 rfl rfl (fun g => ?_) (fun g => ?_)
  · obtain ⟨e1, e2⟩ := (mRC (r := σ.2 11 p) (c := wd σ p)).2 g
    rw [e1, e2] at main
    refine w_aload_n (pc' := 16) dX1_isMoved_15 rfl rfl ?_
    refine w_iload_n (pc' := 17) dX1_isMoved_16 rfl rfl ?_
    -- at 17: .invokevirtual 269
    try simp (decide := true) only [au_1, nu_2, au_lt, nu_lt, aw_e, nw_e, au_s, au_n, nu_s, nu_n, au_au, nu_nu, au_nu]
    refine w_callV1 (pc' := 20) (mc := 0) (ms := 0) dX1_isMoved_17 rfl tX1_wide q1469 rfl rfl qs62 q1467 ov_o rfl (Nat.le_of_ble_eq_true rfl) (Nat.le_of_ble_eq_true rfl) ?_
    refine c_X1_wide hR hP hp (by omega) ?_
    refine w_p1 ?_
    refine w_ist4 (pc' := 22) dX1_isMoved_20 rfl rfl ?_
    refine w_iload_n (pc' := 23) dX1_isMoved_22 rfl rfl ?_
    refine w_iconst (pc' := 24) dX1_isMoved_23 rfl (by decide) ?_
    refine w_iand (pc' := 25) dX1_isMoved_24 rfl ?_
    -- at 25: .ifCond .ne 11
    try simp (decide := true) only [au_1, nu_2, au_lt, nu_lt, aw_e, nw_e, au_s, au_n, nu_s, nu_n, au_au, nu_nu, au_nu]
    refine w_if_ne (pc' := 28) (tgt := 36) dX1_isMoved_25 rfl rfl (fun h_ => ?_) (fun h_ => False.elim (by first | omega | (simp (decide := true) only [au_1, nu_2, au_lt, nu_lt, aw_e, nw_e, au_s, au_n, nu_s, nu_n, au_au, nu_nu, au_nu] at h_; omega)))
    refine w_aload_n (pc' := 37) dX1_isMoved_36 rfl rfl ?_
    refine w_mga 11 (pc' := 40) dX1_isMoved_37 rfl fX1_40_1 rfl ?_
    refine w_iload_n (pc' := 41) dX1_isMoved_40 rfl rfl ?_
    refine w_mild (pc' := 42) dX1_isMoved_41 rfl rfl (by first | omega | (simp (decide := true) only [au_1, nu_2, au_lt, nu_lt, aw_e, nw_e, au_s, au_n, nu_s, nu_n, au_au, nu_nu, au_nu]; omega)) (by first | omega | (simp (decide := true) only [au_1, nu_2, au_lt, nu_lt, aw_e, nw_e, au_s, au_n, nu_s, nu_n, au_au, nu_nu, au_nu]; omega)) ?_
    refine w_ist5 (pc' := 44) dX1_isMoved_42 rfl rfl ?_
    -- at 44: .iload 4
    try simp (decide := true) only [au_1, nu_2, au_lt, nu_lt, aw_e, nw_e, au_s, au_n, nu_s, nu_n, au_au, nu_nu, au_nu]
    exact main
  · obtain ⟨e1, e2⟩ := (mRC (r := σ.2 11 p) (c := wd σ p)).1 g
    rw [e1, e2] at main
    refine w_aload_n (pc' := 7) dX1_isMoved_6 rfl rfl ?_
    refine w_mga 11 (pc' := 10) dX1_isMoved_7 rfl fX1_40_1 rfl ?_
    refine w_iload_n (pc' := 11) dX1_isMoved_10 rfl rfl ?_
    refine w_mild (pc' := 12) dX1_isMoved_11 rfl rfl (by first | omega | (simp (decide := true) only [au_1, nu_2, au_lt, nu_lt, aw_e, nw_e, au_s, au_n, nu_s, nu_n, au_au, nu_nu, au_nu]; omega)) (by first | omega | (simp (decide := true) only [au_1, nu_2, au_lt, nu_lt, aw_e, nw_e, au_s, au_n, nu_s, nu_n, au_au, nu_nu, au_nu]; omega)) ?_
    refine w_goto (tgt := 20) dX1_isMoved_12 rfl ?_
    refine w_ist4 (pc' := 22) dX1_isMoved_20 rfl rfl ?_
    refine w_iload_n (pc' := 23) dX1_isMoved_22 rfl rfl ?_
    refine w_iconst (pc' := 24) dX1_isMoved_23 rfl (by decide) ?_
    refine w_iand (pc' := 25) dX1_isMoved_24 rfl ?_
    -- at 25: .ifCond .ne 11
    try simp (decide := true) only [au_1, nu_2, au_lt, nu_lt, aw_e, nw_e, au_s, au_n, nu_s, nu_n, au_au, nu_nu, au_nu]
    refine w_if_ne (pc' := 28) (tgt := 36) dX1_isMoved_25 rfl rfl (fun h_ => False.elim (by first | omega | (simp (decide := true) only [au_1, nu_2, au_lt, nu_lt, aw_e, nw_e, au_s, au_n, nu_s, nu_n, au_au, nu_nu, au_nu] at h_; omega))) (fun h_ => ?_)
    refine w_aload_n (pc' := 29) dX1_isMoved_28 rfl rfl ?_
    refine w_iload_n (pc' := 30) dX1_isMoved_29 rfl rfl ?_
    -- at 30: .invokevirtual 269
    try simp (decide := true) only [au_1, nu_2, au_lt, nu_lt, aw_e, nw_e, au_s, au_n, nu_s, nu_n, au_au, nu_nu, au_nu]
    refine w_callV1 (pc' := 33) (mc := 0) (ms := 0) dX1_isMoved_30 rfl tX1_wide q1469 rfl rfl qs62 q1467 ov_o rfl (Nat.le_of_ble_eq_true rfl) (Nat.le_of_ble_eq_true rfl) ?_
    refine c_X1_wide hR hP hp (by omega) ?_
    refine w_p1 ?_
    refine w_goto (tgt := 42) dX1_isMoved_33 rfl ?_
    refine w_ist5 (pc' := 44) dX1_isMoved_42 rfl rfl ?_
    -- at 44: .iload 4
    try simp (decide := true) only [au_1, nu_2, au_lt, nu_lt, aw_e, nw_e, au_s, au_n, nu_s, nu_n, au_au, nu_nu, au_nu]
    exact main
theorem bOr_0 {a : Int} (h : rg a) : bOr a 0 = a := by
  unfold bOr
  rw [show Int32.ofInt a ||| Int32.ofInt 0 = Int32.ofInt a from Int32.or_zero, e_toInt h]
theorem bOr_r (a b : Int) : rg (bOr a b) := e_rg _
theorem kbt_r (σ : MS) (p : Int) : ∀ m, rg (kbt σ p m)
  | 0 => by show rg 0; decide
  | m + 1 => by
    show rg (ic _ _ _)
    by_cases h : imv σ p m p
    · rw [ic_t h]; exact bOr_r _ _
    · rw [ic_f h]; exact kbt_r σ p m
theorem c_X1_kept {p : Int} (hK : kok σ) (hR : rok σ) (hP : pok σ) (h : ∀ x y, K (some (xI (aKept σ p))) (ov (nu (nu σ 18 x) 19 y) G0)) : tvW mX1_kept (d + 5) K 0 [some (xR mR), some (xI p), none, none] [] (ov σ G0) bc bs := by
  have e0 : (nu (nu σ 18 (σ.1 18)) 19 (σ.1 19)) = σ := by rw [nu_id, nu_id]
  unfold aKept at h
  have bad : ¬ (0 ≤ p ∧ p < σ.1 12) → tvW mX1_kept (d + 5) K 8 [some (xR mR), some (xI p), none, none] [] (ov σ G0) bc bs := by
    intro q
    rw [ic_f q] at h
    have h := h (σ.1 18) (σ.1 19)
    rw [e0] at h
    refine w_iconst (pc' := 9) dX1_kept_8 rfl (by decide) ?_
    -- at 9: .ireturn
    try simp (decide := true) only [au_1, nu_2, au_lt, nu_lt, aw_e, nw_e, au_s, au_n, nu_s, nu_n, au_au, nu_nu, au_nu]
    refine w_ireturn dX1_kept_9 rfl ?_
    exact h
  refine w_aload_n (pc' := 1) dX1_kept_0 rfl rfl ?_
  refine w_iload_n (pc' := 2) dX1_kept_1 rfl rfl ?_
  refine w_callV1 (pc' := 5) (mc := 0) (ms := 0) dX1_kept_2 rfl tX1_isPattern q1294 rfl rfl qs42 q1292 ov_o rfl (Nat.le_of_ble_eq_true rfl) (Nat.le_of_ble_eq_true rfl) ?_
  refine c_X1_isPattern  (fun g2a g2b => w_p1 ?_) (fun g2 => w_p1 ?_)
  rotate_left
  · refine w_if_ne (pc' := 8) (tgt := 10) dX1_kept_5 rfl rfl (fun h_ => False.elim (by omega)) (fun h_ => ?_)
    exact bad (by omega)
  refine w_if_ne (pc' := 8) (tgt := 10) dX1_kept_5 rfl rfl (fun h_ => ?_) (fun h_ => False.elim (by omega))
  -- at 10: .iconst 0
  have hp : 0 ≤ p ∧ p < σ.1 12 := ⟨g2a, g2b⟩
  rw [ic_t hp] at h
  refine w_iconst (pc' := 11) dX1_kept_10 rfl (by decide) ?_
  refine w_ist2 (pc' := 12) dX1_kept_11 rfl rfl ?_
  refine w_iconst (pc' := 13) dX1_kept_12 rfl (by decide) ?_
  refine w_ist3 (pc' := 14) dX1_kept_13 rfl rfl ?_
  -- at 14: .iload_n 3
  try simp (decide := true) only [au_1, nu_2, au_lt, nu_lt, aw_e, nw_e, au_s, au_n, nu_s, nu_n, au_au, nu_nu, au_nu]
  refine w_ms (τ := (nu (nu σ 18 (σ.1 18)) 19 (σ.1 19))) e0.symm ?_
  have loop : ∀ (j m : Nat) (x y : Int), m + j = 8 → (m = 0 ∨ full σ p) → tvW mX1_kept (d + 5) K 14 [some (xR mR), some (xI p), some (xI (kbt σ p m)), some (xI (m : Int))] [] (ov (nu (nu σ 18 x) 19 y) G0) bc bs := by
    intro j
    induction j with
    | zero =>
      intro m x y hj hf
      have hfF : full σ p := by rcases hf with q | q
                                · omega
                                · exact q
      have em : m = 8 := by omega
      subst em
      rw [ic_t hfF] at h
      refine w_iload_n (pc' := 15) dX1_kept_14 rfl rfl ?_
      refine w_bipush (pc' := 17) dX1_kept_15 rfl (by decide +kernel) (by decide) ?_
      -- at 17: .if_icmp .ge 37
      try simp (decide := true) only [au_1, nu_2, au_lt, nu_lt, aw_e, nw_e, au_s, au_n, nu_s, nu_n, au_au, nu_nu, au_nu]
      refine w_icmp_ge (pc' := 20) (tgt := 54) dX1_kept_17 rfl rfl (fun h_ => ?_) (fun h_ => False.elim (by first | omega | (simp (decide := true) only [au_1, nu_2, au_lt, nu_lt, aw_e, nw_e, au_s, au_n, nu_s, nu_n, au_au, nu_nu, au_nu] at h_; omega)))
      refine w_iload_n (pc' := 55) dX1_kept_54 rfl rfl ?_
      -- at 55: .ireturn
      try simp (decide := true) only [au_1, nu_2, au_lt, nu_lt, aw_e, nw_e, au_s, au_n, nu_s, nu_n, au_au, nu_nu, au_nu]
      refine w_ireturn dX1_kept_55 rfl ?_
      exact h x y
    | succ j ih =>
      intro m x y hj hf0
      refine w_iload_n (pc' := 15) dX1_kept_14 rfl rfl ?_
      refine w_bipush (pc' := 17) dX1_kept_15 rfl (by decide +kernel) (by decide) ?_
      -- at 17: .if_icmp .ge 37
      try simp (decide := true) only [au_1, nu_2, au_lt, nu_lt, aw_e, nw_e, au_s, au_n, nu_s, nu_n, au_au, nu_nu, au_nu]
      refine w_icmp_ge (pc' := 20) (tgt := 54) dX1_kept_17 rfl rfl (fun h_ => False.elim (by first | omega | (simp (decide := true) only [au_1, nu_2, au_lt, nu_lt, aw_e, nw_e, au_s, au_n, nu_s, nu_n, au_au, nu_nu, au_nu] at h_; omega))) (fun h_ => ?_)
      refine w_aload_n (pc' := 21) dX1_kept_20 rfl rfl ?_
      refine w_iload_n (pc' := 22) dX1_kept_21 rfl rfl ?_
      -- at 22: .invokevirtual 275
      try simp (decide := true) only [au_1, nu_2, au_lt, nu_lt, aw_e, nw_e, au_s, au_n, nu_s, nu_n, au_au, nu_nu, au_nu]
      refine w_callV1 (pc' := 25) (mc := 0) (ms := 0) dX1_kept_22 rfl tX1_isFull q1461 rfl rfl qs60 q1459 ov_o rfl (Nat.le_of_ble_eq_true rfl) (Nat.le_of_ble_eq_true rfl) ?_
      refine c_X1_isFull (show rok _ from hR) (show pok _ from hP) hp (fun hf => w_p1 ?_) (fun hf => w_p1 ?_)
      · have hf : full σ p := hf
        refine w_if_eq (pc' := 28) (tgt := 54) dX1_kept_25 rfl rfl (fun h_ => False.elim (by first | omega | (simp (decide := true) only [au_1, nu_2, au_lt, nu_lt, aw_e, nw_e, au_s, au_n, nu_s, nu_n, au_au, nu_nu, au_nu] at h_; omega))) (fun h_ => ?_)
        refine w_iload_n (pc' := 29) dX1_kept_28 rfl rfl ?_
        refine w_aload_n (pc' := 30) dX1_kept_29 rfl rfl ?_
        refine w_iload_n (pc' := 31) dX1_kept_30 rfl rfl ?_
        refine w_iload_n (pc' := 32) dX1_kept_31 rfl rfl ?_
        refine w_iload_n (pc' := 33) dX1_kept_32 rfl rfl ?_
        -- at 33: .invokevirtual 278
        try simp (decide := true) only [au_1, nu_2, au_lt, nu_lt, aw_e, nw_e, au_s, au_n, nu_s, nu_n, au_au, nu_nu, au_nu]
        refine w_callV3 (pc' := 36) (mc := 0) (ms := 0) dX1_kept_33 rfl tX1_isMoved q1465 rfl rfl qs61 q1463 ov_o rfl (Nat.le_of_ble_eq_true rfl) (Nat.le_of_ble_eq_true rfl) ?_
        refine c_X1_isMoved (show kok _ from hK) (show rok _ from hR) (show pok _ from hP) hp hp hf hf ⟨by omega, by omega⟩ (fun q x y => w_p1 ?_) (fun q x y => w_p1 ?_)
        · refine w_if_eq (pc' := 39) (tgt := 45) dX1_kept_36 rfl rfl (fun h_ => False.elim (by first | omega | (simp (decide := true) only [au_1, nu_2, au_lt, nu_lt, aw_e, nw_e, au_s, au_n, nu_s, nu_n, au_au, nu_nu, au_nu] at h_; omega))) (fun h_ => ?_)
          try simp (decide := true) only [au_1, nu_2, au_lt, nu_lt, aw_e, nw_e, au_s, au_n, nu_s, nu_n, au_au, nu_nu, au_nu]
          refine w_iconst (pc' := 40) dX1_kept_39 rfl (by decide) ?_
          refine w_iload_n (pc' := 41) dX1_kept_40 rfl rfl ?_
          refine w_ishl (pc' := 42) dX1_kept_41 rfl ?_
          refine w_goto (tgt := 46) dX1_kept_42 rfl ?_
          refine w_ior (pc' := 47) dX1_kept_46 rfl ?_
          refine w_ist2 (pc' := 48) dX1_kept_47 rfl rfl ?_
          refine w_inc3 (pc' := 51) dX1_kept_48 rfl rfl ⟨by first | omega | (simp (decide := true) only [au_1, nu_2, au_lt, nu_lt, aw_e, nw_e, au_s, au_n, nu_s, nu_n, au_au, nu_nu, au_nu]; omega), by first | omega | (simp (decide := true) only [au_1, nu_2, au_lt, nu_lt, aw_e, nw_e, au_s, au_n, nu_s, nu_n, au_au, nu_nu, au_nu]; omega)⟩ ?_
          refine w_goto (tgt := 14) dX1_kept_51 rfl ?_
          -- at 14: .iload_n 3
          try simp (decide := true) only [au_1, nu_2, au_lt, nu_lt, aw_e, nw_e, au_s, au_n, nu_s, nu_n, au_au, nu_nu, au_nu]
          have := ih (m + 1) x y (by omega) (Or.inr hf)
          rw [show kbt σ p (m + 1) = bOr (kbt σ p m) (bShl 1 m) from ic_t q] at this
          exact this
        · refine w_if_eq (pc' := 39) (tgt := 45) dX1_kept_36 rfl rfl (fun h_ => ?_) (fun h_ => False.elim (by first | omega | (simp (decide := true) only [au_1, nu_2, au_lt, nu_lt, aw_e, nw_e, au_s, au_n, nu_s, nu_n, au_au, nu_nu, au_nu] at h_; omega)))
          try simp (decide := true) only [au_1, nu_2, au_lt, nu_lt, aw_e, nw_e, au_s, au_n, nu_s, nu_n, au_au, nu_nu, au_nu]
          refine w_iconst (pc' := 46) dX1_kept_45 rfl (by decide) ?_
          refine w_ior (pc' := 47) dX1_kept_46 rfl ?_
          refine w_ist2 (pc' := 48) dX1_kept_47 rfl rfl ?_
          refine w_inc3 (pc' := 51) dX1_kept_48 rfl rfl ⟨by first | omega | (simp (decide := true) only [au_1, nu_2, au_lt, nu_lt, aw_e, nw_e, au_s, au_n, nu_s, nu_n, au_au, nu_nu, au_nu]; omega), by first | omega | (simp (decide := true) only [au_1, nu_2, au_lt, nu_lt, aw_e, nw_e, au_s, au_n, nu_s, nu_n, au_au, nu_nu, au_nu]; omega)⟩ ?_
          refine w_goto (tgt := 14) dX1_kept_51 rfl ?_
          -- at 14: .iload_n 3
          try simp (decide := true) only [au_1, nu_2, au_lt, nu_lt, aw_e, nw_e, au_s, au_n, nu_s, nu_n, au_au, nu_nu, au_nu]
          have := ih (m + 1) x y (by omega) (Or.inr hf)
          rw [show kbt σ p (m + 1) = kbt σ p m from ic_f q] at this
          rw [bOr_0 (kbt_r σ p m)]
          exact this
      · have hf : ¬ full σ p := hf
        have em : m = 0 := by rcases hf0 with q | q
                              · exact q
                              · exact absurd q hf
        subst em
        rw [ic_f hf] at h
        refine w_if_eq (pc' := 28) (tgt := 54) dX1_kept_25 rfl rfl (fun h_ => ?_) (fun h_ => False.elim (by first | omega | (simp (decide := true) only [au_1, nu_2, au_lt, nu_lt, aw_e, nw_e, au_s, au_n, nu_s, nu_n, au_au, nu_nu, au_nu] at h_; omega)))
        refine w_iload_n (pc' := 55) dX1_kept_54 rfl rfl ?_
        -- at 55: .ireturn
        try simp (decide := true) only [au_1, nu_2, au_lt, nu_lt, aw_e, nw_e, au_s, au_n, nu_s, nu_n, au_au, nu_nu, au_nu]
        refine w_ireturn dX1_kept_55 rfl ?_
        exact h x y
  exact loop 8 0 _ _ rfl (Or.inl rfl)
theorem c_X1_congruent {p q : Int} (hK : kok σ) (hR : rok σ) (hP : pok σ) (h : ∀ x y, K (some (xI (aCong σ p q))) (ov (nu (nu σ 18 x) 19 y) G0)) : tvW mX1_congruent (d + 5) K 0 [some (xR mR), some (xI p), some (xI q), none] [] (ov σ G0) bc bs := by
  have e0 : (nu (nu σ 18 (σ.1 18)) 19 (σ.1 19)) = σ := by rw [nu_id, nu_id]
  unfold aCong at h
  have bad : ¬ ((0 ≤ p ∧ p < σ.1 12) ∧ (0 ≤ q ∧ q < σ.1 12) ∧ full σ p ∧ full σ q) → tvW mX1_congruent (d + 5) K 32 [some (xR mR), some (xI p), some (xI q), none] [] (ov σ G0) bc bs := by
    intro z
    rw [ic_f z] at h
    have h := h (σ.1 18) (σ.1 19)
    rw [e0] at h
    refine w_iconst (pc' := 33) dX1_congruent_32 rfl (by decide) ?_
    -- at 33: .ireturn
    try simp (decide := true) only [au_1, nu_2, au_lt, nu_lt, aw_e, nw_e, au_s, au_n, nu_s, nu_n, au_au, nu_nu, au_nu]
    refine w_ireturn dX1_congruent_33 rfl ?_
    exact h
  refine w_aload_n (pc' := 1) dX1_congruent_0 rfl rfl ?_
  refine w_iload_n (pc' := 2) dX1_congruent_1 rfl rfl ?_
  refine w_callV1 (pc' := 5) (mc := 0) (ms := 0) dX1_congruent_2 rfl tX1_isPattern q1294 rfl rfl qs42 q1292 ov_o rfl (Nat.le_of_ble_eq_true rfl) (Nat.le_of_ble_eq_true rfl) ?_
  refine c_X1_isPattern  (fun g2a g2b => w_p1 ?_) (fun g2 => w_p1 ?_)
  rotate_left
  · refine w_if_eq (pc' := 8) (tgt := 32) dX1_congruent_5 rfl rfl (fun h_ => ?_) (fun h_ => False.elim (by omega))
    exact bad (fun z => g2 z.1)
  refine w_if_eq (pc' := 8) (tgt := 32) dX1_congruent_5 rfl rfl (fun h_ => False.elim (by omega)) (fun h_ => ?_)
  -- at 8: .aload_n 0
  refine w_aload_n (pc' := 9) dX1_congruent_8 rfl rfl ?_
  refine w_iload_n (pc' := 10) dX1_congruent_9 rfl rfl ?_
  refine w_callV1 (pc' := 13) (mc := 0) (ms := 0) dX1_congruent_10 rfl tX1_isPattern q1294 rfl rfl qs42 q1292 ov_o rfl (Nat.le_of_ble_eq_true rfl) (Nat.le_of_ble_eq_true rfl) ?_
  refine c_X1_isPattern  (fun g10a g10b => w_p1 ?_) (fun g10 => w_p1 ?_)
  rotate_left
  · refine w_if_eq (pc' := 16) (tgt := 32) dX1_congruent_13 rfl rfl (fun h_ => ?_) (fun h_ => False.elim (by omega))
    exact bad (fun z => g10 z.2.1)
  refine w_if_eq (pc' := 16) (tgt := 32) dX1_congruent_13 rfl rfl (fun h_ => False.elim (by omega)) (fun h_ => ?_)
  -- at 16: .aload_n 0
  refine w_aload_n (pc' := 17) dX1_congruent_16 rfl rfl ?_
  refine w_iload_n (pc' := 18) dX1_congruent_17 rfl rfl ?_
  refine w_callV1 (pc' := 21) (mc := 0) (ms := 0) dX1_congruent_18 rfl tX1_isFull q1461 rfl rfl qs60 q1459 ov_o rfl (Nat.le_of_ble_eq_true rfl) (Nat.le_of_ble_eq_true rfl) ?_
  refine c_X1_isFull hR hP ⟨g2a, g2b⟩ (fun g18a => w_p1 ?_) (fun g18 => w_p1 ?_)
  rotate_left
  · refine w_if_eq (pc' := 24) (tgt := 32) dX1_congruent_21 rfl rfl (fun h_ => ?_) (fun h_ => False.elim (by omega))
    exact bad (fun z => g18 z.2.2.1)
  refine w_if_eq (pc' := 24) (tgt := 32) dX1_congruent_21 rfl rfl (fun h_ => False.elim (by omega)) (fun h_ => ?_)
  -- at 24: .aload_n 0
  refine w_aload_n (pc' := 25) dX1_congruent_24 rfl rfl ?_
  refine w_iload_n (pc' := 26) dX1_congruent_25 rfl rfl ?_
  refine w_callV1 (pc' := 29) (mc := 0) (ms := 0) dX1_congruent_26 rfl tX1_isFull q1461 rfl rfl qs60 q1459 ov_o rfl (Nat.le_of_ble_eq_true rfl) (Nat.le_of_ble_eq_true rfl) ?_
  refine c_X1_isFull hR hP ⟨g10a, g10b⟩ (fun g26a => w_p1 ?_) (fun g26 => w_p1 ?_)
  rotate_left
  · refine w_if_ne (pc' := 32) (tgt := 34) dX1_congruent_29 rfl rfl (fun h_ => False.elim (by omega)) (fun h_ => ?_)
    exact bad (fun z => g26 z.2.2.2)
  refine w_if_ne (pc' := 32) (tgt := 34) dX1_congruent_29 rfl rfl (fun h_ => ?_) (fun h_ => False.elim (by omega))
  -- at 34: .iconst 0
  have hp : 0 ≤ p ∧ p < σ.1 12 := ⟨g2a, g2b⟩
  have hq : 0 ≤ q ∧ q < σ.1 12 := ⟨g10a, g10b⟩
  rw [ic_t ⟨hp, hq, g18a, g26a⟩] at h
  refine w_iconst (pc' := 35) dX1_congruent_34 rfl (by decide) ?_
  refine w_ist3 (pc' := 36) dX1_congruent_35 rfl rfl ?_
  -- at 36: .iload_n 3
  try simp (decide := true) only [au_1, nu_2, au_lt, nu_lt, aw_e, nw_e, au_s, au_n, nu_s, nu_n, au_au, nu_nu, au_nu]
  refine w_ms (τ := (nu (nu σ 18 (σ.1 18)) 19 (σ.1 19))) e0.symm ?_
  refine up (T := fun m => ∀ x y, (∀ m', 0 ≤ m' → m' < m → ¬ imv σ p m' q) → tvW mX1_congruent (d + 5) K 36 [some (xR mR), some (xI p), some (xI q), some (xI m)] [] (ov (nu (nu σ 18 x) 19 y) G0) bc bs) (a := 0) 8 (by omega) (fun x y hn => ?_) (fun m m0 m1 ih x y hn => ?_) _ _ (fun m' a b => by omega)
  · rw [fi_no hn] at h
    refine w_iload_n (pc' := 37) dX1_congruent_36 rfl rfl ?_
    refine w_bipush (pc' := 39) dX1_congruent_37 rfl (by decide +kernel) (by decide) ?_
    -- at 39: .if_icmp .ge 21
    try simp (decide := true) only [au_1, nu_2, au_lt, nu_lt, aw_e, nw_e, au_s, au_n, nu_s, nu_n, au_au, nu_nu, au_nu]
    refine w_icmp_ge (pc' := 42) (tgt := 60) dX1_congruent_39 rfl rfl (fun h_ => ?_) (fun h_ => False.elim (by first | omega | (simp (decide := true) only [au_1, nu_2, au_lt, nu_lt, aw_e, nw_e, au_s, au_n, nu_s, nu_n, au_au, nu_nu, au_nu] at h_; omega)))
    refine w_iconst (pc' := 61) dX1_congruent_60 rfl (by decide) ?_
    -- at 61: .ireturn
    try simp (decide := true) only [au_1, nu_2, au_lt, nu_lt, aw_e, nw_e, au_s, au_n, nu_s, nu_n, au_au, nu_nu, au_nu]
    refine w_ireturn dX1_congruent_61 rfl ?_
    exact h x y
  · refine w_iload_n (pc' := 37) dX1_congruent_36 rfl rfl ?_
    refine w_bipush (pc' := 39) dX1_congruent_37 rfl (by decide +kernel) (by decide) ?_
    -- at 39: .if_icmp .ge 21
    try simp (decide := true) only [au_1, nu_2, au_lt, nu_lt, aw_e, nw_e, au_s, au_n, nu_s, nu_n, au_au, nu_nu, au_nu]
    refine w_icmp_ge (pc' := 42) (tgt := 60) dX1_congruent_39 rfl rfl (fun h_ => False.elim (by first | omega | (simp (decide := true) only [au_1, nu_2, au_lt, nu_lt, aw_e, nw_e, au_s, au_n, nu_s, nu_n, au_au, nu_nu, au_nu] at h_; omega))) (fun h_ => ?_)
    refine w_aload_n (pc' := 43) dX1_congruent_42 rfl rfl ?_
    refine w_iload_n (pc' := 44) dX1_congruent_43 rfl rfl ?_
    refine w_iload_n (pc' := 45) dX1_congruent_44 rfl rfl ?_
    refine w_iload_n (pc' := 46) dX1_congruent_45 rfl rfl ?_
    -- at 46: .invokevirtual 278
    try simp (decide := true) only [au_1, nu_2, au_lt, nu_lt, aw_e, nw_e, au_s, au_n, nu_s, nu_n, au_au, nu_nu, au_nu]
    refine w_callV3 (pc' := 49) (mc := 0) (ms := 0) dX1_congruent_46 rfl tX1_isMoved q1465 rfl rfl qs61 q1463 ov_o rfl (Nat.le_of_ble_eq_true rfl) (Nat.le_of_ble_eq_true rfl) ?_
    refine c_X1_isMoved (show kok _ from hK) (show rok _ from hR) (show pok _ from hP) hp hq (show full _ p from g18a) (show full _ q from g26a) ⟨m0, m1⟩ (fun z x y => w_p1 ?_) (fun z x y => w_p1 ?_)
    · rw [fi_hit (P := fun m => imv σ p m q) m0 m1 z hn] at h
      refine w_if_eq (pc' := 52) (tgt := 54) dX1_congruent_49 rfl rfl (fun h_ => False.elim (by first | omega | (simp (decide := true) only [au_1, nu_2, au_lt, nu_lt, aw_e, nw_e, au_s, au_n, nu_s, nu_n, au_au, nu_nu, au_nu] at h_; omega))) (fun h_ => ?_)
      try simp (decide := true) only [au_1, nu_2, au_lt, nu_lt, aw_e, nw_e, au_s, au_n, nu_s, nu_n, au_au, nu_nu, au_nu]
      refine w_iload_n (pc' := 53) dX1_congruent_52 rfl rfl ?_
      -- at 53: .ireturn
      try simp (decide := true) only [au_1, nu_2, au_lt, nu_lt, aw_e, nw_e, au_s, au_n, nu_s, nu_n, au_au, nu_nu, au_nu]
      refine w_ireturn dX1_congruent_53 rfl ?_
      exact h x y
    · refine w_if_eq (pc' := 52) (tgt := 54) dX1_congruent_49 rfl rfl (fun h_ => ?_) (fun h_ => False.elim (by first | omega | (simp (decide := true) only [au_1, nu_2, au_lt, nu_lt, aw_e, nw_e, au_s, au_n, nu_s, nu_n, au_au, nu_nu, au_nu] at h_; omega)))
      try simp (decide := true) only [au_1, nu_2, au_lt, nu_lt, aw_e, nw_e, au_s, au_n, nu_s, nu_n, au_au, nu_nu, au_nu]
      refine w_inc3 (pc' := 57) dX1_congruent_54 rfl rfl ⟨by first | omega | (simp (decide := true) only [au_1, nu_2, au_lt, nu_lt, aw_e, nw_e, au_s, au_n, nu_s, nu_n, au_au, nu_nu, au_nu]; omega), by first | omega | (simp (decide := true) only [au_1, nu_2, au_lt, nu_lt, aw_e, nw_e, au_s, au_n, nu_s, nu_n, au_au, nu_nu, au_nu]; omega)⟩ ?_
      refine w_goto (tgt := 36) dX1_congruent_57 rfl ?_
      -- at 36: .iload_n 3
      try simp (decide := true) only [au_1, nu_2, au_lt, nu_lt, aw_e, nw_e, au_s, au_n, nu_s, nu_n, au_au, nu_nu, au_nu]
      refine ih x y (fun m' q0 q1 => ?_)
      by_cases e : m' = m
      · rw [e]; exact z
      · exact hn m' q0 (by omega)
theorem c_X1_isFound {p q i j m : Int} (hK : kok σ) (hR : rok σ) (hP : pok σ) (hp : 0 ≤ p ∧ p < σ.1 12) (hq : 0 ≤ q ∧ q < σ.1 12) (hf : full σ q) (hm : 0 ≤ m ∧ m < 8) (hi : 0 ≤ i ∧ i ≤ 1000) (hj : -1000 ≤ j ∧ j ≤ 1000) (h1 : fnd σ p q i j m → ∀ x y, K (some (xI 1)) (ov (nu (nu σ 18 x) 19 y) G0)) (h0 : ¬ fnd σ p q i j m → ∀ x y, K (some (xI 0)) (ov (nu (nu σ 18 x) 19 y) G0)) : tvW mX1_isFound (d + 4) K 0 [some (xR mR), some (xI p), some (xI q), some (xI i), some (xI j), some (xI m), none, none, none, none] [] (ov σ G0) bc bs := by
  obtain ⟨w1, w2, w3⟩ := full_wd hR hP hq hf
  have hp1 := hP.1
  have hmR : 1 ≤ (mvR m (σ.2 11 q) (wd σ q)) ∧ (mvR m (σ.2 11 q) (wd σ q)) ≤ 60 := by unfold mvR; split <;> omega
  have hmC : 1 ≤ (mvC m (σ.2 11 q) (wd σ q)) ∧ (mvC m (σ.2 11 q) (wd σ q)) ≤ 60 := by unfold mvC; split <;> omega
  have hN := mlr (a := (mvR m (σ.2 11 q) (wd σ q))) (b := (mvC m (σ.2 11 q) (wd σ q))) (A := 60) (B := 60) (by omega) (by omega) (by omega) (by omega)
  have no : ¬ fnd σ p q i j m → ∀ x y k, tvW mX1_isFound (d + 4) K 52 [some (xR mR), some (xI p), some (xI q), some (xI i), some (xI j), some (xI m), some (xI (mvR m (σ.2 11 q) (wd σ q))), some (xI (mvC m (σ.2 11 q) (wd σ q))), some (xI 0), k] [] (ov (nu (nu σ 18 x) 19 y) G0) bc bs := by
    intro z x y k
    refine w_iload (pc' := 54) dX1_isFound_52 rfl rfl ?_
    -- at 54: .ifCond .eq 91
    try simp (decide := true) only [au_1, nu_2, au_lt, nu_lt, aw_e, nw_e, au_s, au_n, nu_s, nu_n, au_au, nu_nu, au_nu]
    refine w_if_eq (pc' := 57) (tgt := 145) dX1_isFound_54 rfl rfl (fun h_ => ?_) (fun h_ => False.elim (by first | omega | (simp (decide := true) only [au_1, nu_2, au_lt, nu_lt, aw_e, nw_e, au_s, au_n, nu_s, nu_n, au_au, nu_nu, au_nu] at h_; omega)))
    refine w_iload (pc' := 147) dX1_isFound_145 rfl rfl ?_
    -- at 147: .ireturn
    try simp (decide := true) only [au_1, nu_2, au_lt, nu_lt, aw_e, nw_e, au_s, au_n, nu_s, nu_n, au_au, nu_nu, au_nu]
    refine w_zreturn dX1_isFound_147 rfl (by first | exact Or.inl rfl | exact Or.inr rfl | omega) ?_
    exact h0 z x y
  have e0 : (nu (nu σ 18 (σ.1 18)) 19 (σ.1 19)) = σ := by rw [nu_id, nu_id]
  have main : tvW mX1_isFound (d + 4) K 46 [some (xR mR), some (xI p), some (xI q), some (xI i), some (xI j), some (xI m), some (xI (mvR m (σ.2 11 q) (wd σ q))), some (xI (mvC m (σ.2 11 q) (wd σ q))), none, none] [] (ov σ G0) bc bs := by
    refine w_iconst (pc' := 47) dX1_isFound_46 rfl (by decide) ?_
    refine w_ist8 (pc' := 49) dX1_isFound_47 rfl rfl ?_
    refine w_iconst (pc' := 50) dX1_isFound_49 rfl (by decide) ?_
    refine w_ist9 (pc' := 52) dX1_isFound_50 rfl rfl ?_
    -- at 52: .iload 8
    try simp (decide := true) only [au_1, nu_2, au_lt, nu_lt, aw_e, nw_e, au_s, au_n, nu_s, nu_n, au_au, nu_nu, au_nu]
    refine w_ms (τ := (nu (nu σ 18 (σ.1 18)) 19 (σ.1 19))) e0.symm ?_
    refine up (T := fun k => ∀ x y, (∀ k', 0 ≤ k' → k' < k → hs_ σ p (i + k' / (mvC m (σ.2 11 q) (wd σ q))) (j + k' % (mvC m (σ.2 11 q) (wd σ q))) ∧ ca_ σ p (i + k' / (mvC m (σ.2 11 q) (wd σ q))) (j + k' % (mvC m (σ.2 11 q) (wd σ q))) = mcl σ q m (k' / (mvC m (σ.2 11 q) (wd σ q))) (k' % (mvC m (σ.2 11 q) (wd σ q)))) → tvW mX1_isFound (d + 4) K 52 [some (xR mR), some (xI p), some (xI q), some (xI i), some (xI j), some (xI m), some (xI (mvR m (σ.2 11 q) (wd σ q))), some (xI (mvC m (σ.2 11 q) (wd σ q))), some (xI 1), some (xI k)] [] (ov (nu (nu σ 18 x) 19 y) G0) bc bs) ((mvR m (σ.2 11 q) (wd σ q)) * (mvC m (σ.2 11 q) (wd σ q))) hN.1 (fun x y hn => ?_) (fun k k0 k1 ih x y hn => ?_) _ _ (fun k' a b => by omega)
    · refine w_iload (pc' := 54) dX1_isFound_52 rfl rfl ?_
      -- at 54: .ifCond .eq 91
      try simp (decide := true) only [au_1, nu_2, au_lt, nu_lt, aw_e, nw_e, au_s, au_n, nu_s, nu_n, au_au, nu_nu, au_nu]
      refine w_if_eq (pc' := 57) (tgt := 145) dX1_isFound_54 rfl rfl (fun h_ => False.elim (by first | omega | (simp (decide := true) only [au_1, nu_2, au_lt, nu_lt, aw_e, nw_e, au_s, au_n, nu_s, nu_n, au_au, nu_nu, au_nu] at h_; omega))) (fun h_ => ?_)
      refine w_iload (pc' := 59) dX1_isFound_57 rfl rfl ?_
      refine w_iload (pc' := 61) dX1_isFound_59 rfl rfl ?_
      refine w_iload (pc' := 63) dX1_isFound_61 rfl rfl ?_
      refine w_imul (pc' := 64) dX1_isFound_63 rfl ⟨by first | omega | (simp (decide := true) only [au_1, nu_2, au_lt, nu_lt, aw_e, nw_e, au_s, au_n, nu_s, nu_n, au_au, nu_nu, au_nu]; omega), by first | omega | (simp (decide := true) only [au_1, nu_2, au_lt, nu_lt, aw_e, nw_e, au_s, au_n, nu_s, nu_n, au_au, nu_nu, au_nu]; omega)⟩ ?_
      -- at 64: .if_icmp .ge 81
      try simp (decide := true) only [au_1, nu_2, au_lt, nu_lt, aw_e, nw_e, au_s, au_n, nu_s, nu_n, au_au, nu_nu, au_nu]
      refine w_icmp_ge (pc' := 67) (tgt := 145) dX1_isFound_64 rfl rfl (fun h_ => ?_) (fun h_ => False.elim (by first | omega | (simp (decide := true) only [au_1, nu_2, au_lt, nu_lt, aw_e, nw_e, au_s, au_n, nu_s, nu_n, au_au, nu_nu, au_nu] at h_; omega)))
      refine w_iload (pc' := 147) dX1_isFound_145 rfl rfl ?_
      -- at 147: .ireturn
      try simp (decide := true) only [au_1, nu_2, au_lt, nu_lt, aw_e, nw_e, au_s, au_n, nu_s, nu_n, au_au, nu_nu, au_nu]
      refine w_zreturn dX1_isFound_147 rfl (by first | exact Or.inl rfl | exact Or.inr rfl | omega) ?_
      refine h1 (fun a b i0 i1 j0 j1 => ?_) x y
      have e := ixd (a := a) j0 j1
      have e2 := ixr i0 i1 j0 j1
      have := hn _ e2.1 e2.2
      rw [e.1, e.2] at this
      exact this
    · obtain ⟨⟨a0, a1⟩, ⟨b0, b1⟩, -⟩ := dvc (by omega) k0 k1
      refine w_iload (pc' := 54) dX1_isFound_52 rfl rfl ?_
      -- at 54: .ifCond .eq 91
      try simp (decide := true) only [au_1, nu_2, au_lt, nu_lt, aw_e, nw_e, au_s, au_n, nu_s, nu_n, au_au, nu_nu, au_nu]
      refine w_if_eq (pc' := 57) (tgt := 145) dX1_isFound_54 rfl rfl (fun h_ => False.elim (by first | omega | (simp (decide := true) only [au_1, nu_2, au_lt, nu_lt, aw_e, nw_e, au_s, au_n, nu_s, nu_n, au_au, nu_nu, au_nu] at h_; omega))) (fun h_ => ?_)
      refine w_iload (pc' := 59) dX1_isFound_57 rfl rfl ?_
      refine w_iload (pc' := 61) dX1_isFound_59 rfl rfl ?_
      refine w_iload (pc' := 63) dX1_isFound_61 rfl rfl ?_
      refine w_imul (pc' := 64) dX1_isFound_63 rfl ⟨by first | omega | (simp (decide := true) only [au_1, nu_2, au_lt, nu_lt, aw_e, nw_e, au_s, au_n, nu_s, nu_n, au_au, nu_nu, au_nu]; omega), by first | omega | (simp (decide := true) only [au_1, nu_2, au_lt, nu_lt, aw_e, nw_e, au_s, au_n, nu_s, nu_n, au_au, nu_nu, au_nu]; omega)⟩ ?_
      -- at 64: .if_icmp .ge 81
      try simp (decide := true) only [au_1, nu_2, au_lt, nu_lt, aw_e, nw_e, au_s, au_n, nu_s, nu_n, au_au, nu_nu, au_nu]
      refine w_icmp_ge (pc' := 67) (tgt := 145) dX1_isFound_64 rfl rfl (fun h_ => False.elim (by first | omega | (simp (decide := true) only [au_1, nu_2, au_lt, nu_lt, aw_e, nw_e, au_s, au_n, nu_s, nu_n, au_au, nu_nu, au_nu] at h_; omega))) (fun h_ => ?_)
      refine w_aload_n (pc' := 68) dX1_isFound_67 rfl rfl ?_
      refine w_iload_n (pc' := 69) dX1_isFound_68 rfl rfl ?_
      refine w_iload_n (pc' := 70) dX1_isFound_69 rfl rfl ?_
      refine w_iload (pc' := 72) dX1_isFound_70 rfl rfl ?_
      refine w_iload (pc' := 74) dX1_isFound_72 rfl rfl ?_
      refine w_idiv (pc' := 75) dX1_isFound_74 rfl (by first | omega | (simp (decide := true) only [au_1, nu_2, au_lt, nu_lt, aw_e, nw_e, au_s, au_n, nu_s, nu_n, au_au, nu_nu, au_nu]; omega)) (by first | omega | (simp (decide := true) only [au_1, nu_2, au_lt, nu_lt, aw_e, nw_e, au_s, au_n, nu_s, nu_n, au_au, nu_nu, au_nu]; omega)) ?_
      refine w_iadd (pc' := 76) dX1_isFound_75 rfl ⟨by first | omega | (simp (decide := true) only [au_1, nu_2, au_lt, nu_lt, aw_e, nw_e, au_s, au_n, nu_s, nu_n, au_au, nu_nu, au_nu]; omega), by first | omega | (simp (decide := true) only [au_1, nu_2, au_lt, nu_lt, aw_e, nw_e, au_s, au_n, nu_s, nu_n, au_au, nu_nu, au_nu]; omega)⟩ ?_
      refine w_i2l (pc' := 77) dX1_isFound_76 rfl ?_
      refine w_iload (pc' := 79) dX1_isFound_77 rfl rfl ?_
      refine w_iload (pc' := 81) dX1_isFound_79 rfl rfl ?_
      refine w_iload (pc' := 83) dX1_isFound_81 rfl rfl ?_
      refine w_irem (pc' := 84) dX1_isFound_83 rfl (by first | omega | (simp (decide := true) only [au_1, nu_2, au_lt, nu_lt, aw_e, nw_e, au_s, au_n, nu_s, nu_n, au_au, nu_nu, au_nu]; omega)) (by first | omega | (simp (decide := true) only [au_1, nu_2, au_lt, nu_lt, aw_e, nw_e, au_s, au_n, nu_s, nu_n, au_au, nu_nu, au_nu]; omega)) ?_
      refine w_iadd (pc' := 85) dX1_isFound_84 rfl ⟨by first | omega | (simp (decide := true) only [au_1, nu_2, au_lt, nu_lt, aw_e, nw_e, au_s, au_n, nu_s, nu_n, au_au, nu_nu, au_nu]; omega), by first | omega | (simp (decide := true) only [au_1, nu_2, au_lt, nu_lt, aw_e, nw_e, au_s, au_n, nu_s, nu_n, au_au, nu_nu, au_nu]; omega)⟩ ?_
      refine w_i2l (pc' := 86) dX1_isFound_85 rfl ?_
      -- at 86: .invokevirtual 204
      try simp (decide := true) only [au_1, nu_2, au_lt, nu_lt, aw_e, nw_e, au_s, au_n, nu_s, nu_n, au_au, nu_nu, au_nu]
      refine w_callV3 (pc' := 89) (mc := 0) (ms := 0) dX1_isFound_86 rfl tX1_has q1326 rfl rfl qs47 q1324 ov_o rfl (Nat.le_of_ble_eq_true rfl) (Nat.le_of_ble_eq_true rfl) ?_
      refine c_X1_has (show rok _ from hR) (show pok _ from hP) hp ⟨by omega, by omega⟩ (fun z => w_p1 ?_) (fun z => w_p1 ?_)
      · have z : hs_ σ p (i + k / (mvC m (σ.2 11 q) (wd σ q))) (j + k % (mvC m (σ.2 11 q) (wd σ q))) := z
        refine w_if_eq (pc' := 92) (tgt := 136) dX1_isFound_89 rfl rfl (fun h_ => False.elim (by first | omega | (simp (decide := true) only [au_1, nu_2, au_lt, nu_lt, aw_e, nw_e, au_s, au_n, nu_s, nu_n, au_au, nu_nu, au_nu] at h_; omega))) (fun h_ => ?_)
        refine w_aload_n (pc' := 93) dX1_isFound_92 rfl rfl ?_
        refine w_iload_n (pc' := 94) dX1_isFound_93 rfl rfl ?_
        refine w_iload_n (pc' := 95) dX1_isFound_94 rfl rfl ?_
        refine w_iload (pc' := 97) dX1_isFound_95 rfl rfl ?_
        refine w_iload (pc' := 99) dX1_isFound_97 rfl rfl ?_
        refine w_idiv (pc' := 100) dX1_isFound_99 rfl (by first | omega | (simp (decide := true) only [au_1, nu_2, au_lt, nu_lt, aw_e, nw_e, au_s, au_n, nu_s, nu_n, au_au, nu_nu, au_nu]; omega)) (by first | omega | (simp (decide := true) only [au_1, nu_2, au_lt, nu_lt, aw_e, nw_e, au_s, au_n, nu_s, nu_n, au_au, nu_nu, au_nu]; omega)) ?_
        refine w_iadd (pc' := 101) dX1_isFound_100 rfl ⟨by first | omega | (simp (decide := true) only [au_1, nu_2, au_lt, nu_lt, aw_e, nw_e, au_s, au_n, nu_s, nu_n, au_au, nu_nu, au_nu]; omega), by first | omega | (simp (decide := true) only [au_1, nu_2, au_lt, nu_lt, aw_e, nw_e, au_s, au_n, nu_s, nu_n, au_au, nu_nu, au_nu]; omega)⟩ ?_
        refine w_iload (pc' := 103) dX1_isFound_101 rfl rfl ?_
        refine w_iload (pc' := 105) dX1_isFound_103 rfl rfl ?_
        refine w_iload (pc' := 107) dX1_isFound_105 rfl rfl ?_
        refine w_irem (pc' := 108) dX1_isFound_107 rfl (by first | omega | (simp (decide := true) only [au_1, nu_2, au_lt, nu_lt, aw_e, nw_e, au_s, au_n, nu_s, nu_n, au_au, nu_nu, au_nu]; omega)) (by first | omega | (simp (decide := true) only [au_1, nu_2, au_lt, nu_lt, aw_e, nw_e, au_s, au_n, nu_s, nu_n, au_au, nu_nu, au_nu]; omega)) ?_
        refine w_iadd (pc' := 109) dX1_isFound_108 rfl ⟨by first | omega | (simp (decide := true) only [au_1, nu_2, au_lt, nu_lt, aw_e, nw_e, au_s, au_n, nu_s, nu_n, au_au, nu_nu, au_nu]; omega), by first | omega | (simp (decide := true) only [au_1, nu_2, au_lt, nu_lt, aw_e, nw_e, au_s, au_n, nu_s, nu_n, au_au, nu_nu, au_nu]; omega)⟩ ?_
        -- at 109: .invokevirtual 212
        try simp (decide := true) only [au_1, nu_2, au_lt, nu_lt, aw_e, nw_e, au_s, au_n, nu_s, nu_n, au_au, nu_nu, au_nu]
        refine w_callV3 (pc' := 112) (mc := 0) (ms := 0) dX1_isFound_109 rfl tX1_cellAt q1349 rfl rfl qs51 q1347 ov_o rfl (Nat.le_of_ble_eq_true rfl) (Nat.le_of_ble_eq_true rfl) ?_
        refine c_X1_cellAt (show rok _ from hR) (show pok _ from hP) hp (show hs_ _ _ _ _ from z) ?_
        refine w_p1 ?_
        refine w_st (st' := [xI (ca_ σ p (i + k / (mvC m (σ.2 11 q) (wd σ q))) (j + k % (mvC m (σ.2 11 q) (wd σ q))))]) rfl ?_
        refine w_aload_n (pc' := 113) dX1_isFound_112 rfl rfl ?_
        refine w_iload_n (pc' := 114) dX1_isFound_113 rfl rfl ?_
        refine w_iload (pc' := 116) dX1_isFound_114 rfl rfl ?_
        refine w_iload (pc' := 118) dX1_isFound_116 rfl rfl ?_
        refine w_iload (pc' := 120) dX1_isFound_118 rfl rfl ?_
        refine w_idiv (pc' := 121) dX1_isFound_120 rfl (by first | omega | (simp (decide := true) only [au_1, nu_2, au_lt, nu_lt, aw_e, nw_e, au_s, au_n, nu_s, nu_n, au_au, nu_nu, au_nu]; omega)) (by first | omega | (simp (decide := true) only [au_1, nu_2, au_lt, nu_lt, aw_e, nw_e, au_s, au_n, nu_s, nu_n, au_au, nu_nu, au_nu]; omega)) ?_
        refine w_iload (pc' := 123) dX1_isFound_121 rfl rfl ?_
        refine w_iload (pc' := 125) dX1_isFound_123 rfl rfl ?_
        refine w_irem (pc' := 126) dX1_isFound_125 rfl (by first | omega | (simp (decide := true) only [au_1, nu_2, au_lt, nu_lt, aw_e, nw_e, au_s, au_n, nu_s, nu_n, au_au, nu_nu, au_nu]; omega)) (by first | omega | (simp (decide := true) only [au_1, nu_2, au_lt, nu_lt, aw_e, nw_e, au_s, au_n, nu_s, nu_n, au_au, nu_nu, au_nu]; omega)) ?_
        -- at 126: .invokevirtual 272
        try simp (decide := true) only [au_1, nu_2, au_lt, nu_lt, aw_e, nw_e, au_s, au_n, nu_s, nu_n, au_au, nu_nu, au_nu]
        refine w_callV4 (pc' := 129) (mc := 0) (ms := 0) dX1_isFound_126 rfl tX1_movedCell q1473 rfl rfl qs63 q1471 ov_o rfl (Nat.le_of_ble_eq_true rfl) (Nat.le_of_ble_eq_true rfl) ?_
        refine c_X1_movedCell (show kok _ from hK) (show rok _ from hR) (show pok _ from hP) hq (show full _ q from hf) hm ⟨a0, a1⟩ ⟨b0, b1⟩ (fun x' y' => w_p1 ?_)
        refine w_st (st' := [xI (mcl σ q m (k / (mvC m (σ.2 11 q) (wd σ q))) (k % (mvC m (σ.2 11 q) (wd σ q)))), xI (ca_ σ p (i + k / (mvC m (σ.2 11 q) (wd σ q))) (j + k % (mvC m (σ.2 11 q) (wd σ q))))]) rfl ?_
        try simp (decide := true) only [au_1, nu_2, au_lt, nu_lt, aw_e, nw_e, au_s, au_n, nu_s, nu_n, au_au, nu_nu, au_nu]
        refine w_icmp_ne (pc' := 132) (tgt := 136) dX1_isFound_129 rfl rfl (fun g3 => ?_) (fun g3 => ?_)
        · refine w_iconst (pc' := 137) dX1_isFound_136 rfl (by decide) ?_
          refine w_ist8 (pc' := 139) dX1_isFound_137 rfl rfl ?_
          refine w_inc9 (pc' := 142) dX1_isFound_139 rfl rfl ⟨by first | omega | (simp (decide := true) only [au_1, nu_2, au_lt, nu_lt, aw_e, nw_e, au_s, au_n, nu_s, nu_n, au_au, nu_nu, au_nu]; omega), by first | omega | (simp (decide := true) only [au_1, nu_2, au_lt, nu_lt, aw_e, nw_e, au_s, au_n, nu_s, nu_n, au_au, nu_nu, au_nu]; omega)⟩ ?_
          refine w_goto (tgt := 52) dX1_isFound_142 rfl ?_
          -- at 52: .iload 8
          try simp (decide := true) only [au_1, nu_2, au_lt, nu_lt, aw_e, nw_e, au_s, au_n, nu_s, nu_n, au_au, nu_nu, au_nu]
          exact no (fun w => g3 (w _ _ a0 a1 b0 b1).2) _ _ _
        · refine w_iconst (pc' := 133) dX1_isFound_132 rfl (by decide) ?_
          refine w_goto (tgt := 137) dX1_isFound_133 rfl ?_
          refine w_ist8 (pc' := 139) dX1_isFound_137 rfl rfl ?_
          refine w_inc9 (pc' := 142) dX1_isFound_139 rfl rfl ⟨by first | omega | (simp (decide := true) only [au_1, nu_2, au_lt, nu_lt, aw_e, nw_e, au_s, au_n, nu_s, nu_n, au_au, nu_nu, au_nu]; omega), by first | omega | (simp (decide := true) only [au_1, nu_2, au_lt, nu_lt, aw_e, nw_e, au_s, au_n, nu_s, nu_n, au_au, nu_nu, au_nu]; omega)⟩ ?_
          refine w_goto (tgt := 52) dX1_isFound_142 rfl ?_
          -- at 52: .iload 8
          try simp (decide := true) only [au_1, nu_2, au_lt, nu_lt, aw_e, nw_e, au_s, au_n, nu_s, nu_n, au_au, nu_nu, au_nu]
          refine ih _ _ (fun k' q0 q1 => ?_)
          by_cases e : k' = k
          · rw [e]; exact ⟨z, g3⟩
          · exact hn k' q0 (by omega)
      · have z : ¬ hs_ σ p (i + k / (mvC m (σ.2 11 q) (wd σ q))) (j + k % (mvC m (σ.2 11 q) (wd σ q))) := z
        refine w_if_eq (pc' := 92) (tgt := 136) dX1_isFound_89 rfl rfl (fun h_ => ?_) (fun h_ => False.elim (by first | omega | (simp (decide := true) only [au_1, nu_2, au_lt, nu_lt, aw_e, nw_e, au_s, au_n, nu_s, nu_n, au_au, nu_nu, au_nu] at h_; omega)))
        refine w_iconst (pc' := 137) dX1_isFound_136 rfl (by decide) ?_
        refine w_ist8 (pc' := 139) dX1_isFound_137 rfl rfl ?_
        refine w_inc9 (pc' := 142) dX1_isFound_139 rfl rfl ⟨by first | omega | (simp (decide := true) only [au_1, nu_2, au_lt, nu_lt, aw_e, nw_e, au_s, au_n, nu_s, nu_n, au_au, nu_nu, au_nu]; omega), by first | omega | (simp (decide := true) only [au_1, nu_2, au_lt, nu_lt, aw_e, nw_e, au_s, au_n, nu_s, nu_n, au_au, nu_nu, au_nu]; omega)⟩ ?_
        refine w_goto (tgt := 52) dX1_isFound_142 rfl ?_
        -- at 52: .iload 8
        try simp (decide := true) only [au_1, nu_2, au_lt, nu_lt, aw_e, nw_e, au_s, au_n, nu_s, nu_n, au_au, nu_nu, au_nu]
        exact no (fun w => z (w _ _ a0 a1 b0 b1).1) _ _ _
  refine w_iload (pc' := 2) dX1_isFound_0 rfl rfl ?_
  refine w_iconst (pc' := 3) dX1_isFound_2 rfl (by decide) ?_
  refine w_iand (pc' := 4) dX1_isFound_3 rfl ?_
  -- at 4: .ifCond .ne 12
  try simp (decide := true) only [au_1, nu_2, au_lt, nu_lt, aw_e, nw_e, au_s, au_n, nu_s, nu_n, au_au, nu_nu, au_nu]
  refine w_if_ne (pc' := 7) (tgt := 16) dX1_isFound_4 rfl rfl (fun g => ?_) (fun g => ?_)
  · obtain ⟨e1, e2⟩ := (mRC (r := σ.2 11 q) (c := wd σ q)).2 g
    rw [e1, e2] at main
    refine w_aload_n (pc' := 17) dX1_isFound_16 rfl rfl ?_
    refine w_iload_n (pc' := 18) dX1_isFound_17 rfl rfl ?_
    -- at 18: .invokevirtual 269
    try simp (decide := true) only [au_1, nu_2, au_lt, nu_lt, aw_e, nw_e, au_s, au_n, nu_s, nu_n, au_au, nu_nu, au_nu]
    refine w_callV1 (pc' := 21) (mc := 0) (ms := 0) dX1_isFound_18 rfl tX1_wide q1469 rfl rfl qs62 q1467 ov_o rfl (Nat.le_of_ble_eq_true rfl) (Nat.le_of_ble_eq_true rfl) ?_
    refine c_X1_wide hR hP hq (by omega) ?_
    refine w_p1 ?_
    refine w_ist6 (pc' := 23) dX1_isFound_21 rfl rfl ?_
    refine w_iload (pc' := 25) dX1_isFound_23 rfl rfl ?_
    refine w_iconst (pc' := 26) dX1_isFound_25 rfl (by decide) ?_
    refine w_iand (pc' := 27) dX1_isFound_26 rfl ?_
    -- at 27: .ifCond .ne 11
    try simp (decide := true) only [au_1, nu_2, au_lt, nu_lt, aw_e, nw_e, au_s, au_n, nu_s, nu_n, au_au, nu_nu, au_nu]
    refine w_if_ne (pc' := 30) (tgt := 38) dX1_isFound_27 rfl rfl (fun h_ => ?_) (fun h_ => False.elim (by first | omega | (simp (decide := true) only [au_1, nu_2, au_lt, nu_lt, aw_e, nw_e, au_s, au_n, nu_s, nu_n, au_au, nu_nu, au_nu] at h_; omega)))
    refine w_aload_n (pc' := 39) dX1_isFound_38 rfl rfl ?_
    refine w_mga 11 (pc' := 42) dX1_isFound_39 rfl fX1_40_1 rfl ?_
    refine w_iload_n (pc' := 43) dX1_isFound_42 rfl rfl ?_
    refine w_mild (pc' := 44) dX1_isFound_43 rfl rfl (by first | omega | (simp (decide := true) only [au_1, nu_2, au_lt, nu_lt, aw_e, nw_e, au_s, au_n, nu_s, nu_n, au_au, nu_nu, au_nu]; omega)) (by first | omega | (simp (decide := true) only [au_1, nu_2, au_lt, nu_lt, aw_e, nw_e, au_s, au_n, nu_s, nu_n, au_au, nu_nu, au_nu]; omega)) ?_
    refine w_ist7 (pc' := 46) dX1_isFound_44 rfl rfl ?_
    -- at 46: .iconst 1
    try simp (decide := true) only [au_1, nu_2, au_lt, nu_lt, aw_e, nw_e, au_s, au_n, nu_s, nu_n, au_au, nu_nu, au_nu]
    exact main
  · obtain ⟨e1, e2⟩ := (mRC (r := σ.2 11 q) (c := wd σ q)).1 g
    rw [e1, e2] at main
    refine w_aload_n (pc' := 8) dX1_isFound_7 rfl rfl ?_
    refine w_mga 11 (pc' := 11) dX1_isFound_8 rfl fX1_40_1 rfl ?_
    refine w_iload_n (pc' := 12) dX1_isFound_11 rfl rfl ?_
    refine w_mild (pc' := 13) dX1_isFound_12 rfl rfl (by first | omega | (simp (decide := true) only [au_1, nu_2, au_lt, nu_lt, aw_e, nw_e, au_s, au_n, nu_s, nu_n, au_au, nu_nu, au_nu]; omega)) (by first | omega | (simp (decide := true) only [au_1, nu_2, au_lt, nu_lt, aw_e, nw_e, au_s, au_n, nu_s, nu_n, au_au, nu_nu, au_nu]; omega)) ?_
    refine w_goto (tgt := 21) dX1_isFound_13 rfl ?_
    refine w_ist6 (pc' := 23) dX1_isFound_21 rfl rfl ?_
    refine w_iload (pc' := 25) dX1_isFound_23 rfl rfl ?_
    refine w_iconst (pc' := 26) dX1_isFound_25 rfl (by decide) ?_
    refine w_iand (pc' := 27) dX1_isFound_26 rfl ?_
    -- at 27: .ifCond .ne 11
    try simp (decide := true) only [au_1, nu_2, au_lt, nu_lt, aw_e, nw_e, au_s, au_n, nu_s, nu_n, au_au, nu_nu, au_nu]
    refine w_if_ne (pc' := 30) (tgt := 38) dX1_isFound_27 rfl rfl (fun h_ => False.elim (by first | omega | (simp (decide := true) only [au_1, nu_2, au_lt, nu_lt, aw_e, nw_e, au_s, au_n, nu_s, nu_n, au_au, nu_nu, au_nu] at h_; omega))) (fun h_ => ?_)
    refine w_aload_n (pc' := 31) dX1_isFound_30 rfl rfl ?_
    refine w_iload_n (pc' := 32) dX1_isFound_31 rfl rfl ?_
    -- at 32: .invokevirtual 269
    try simp (decide := true) only [au_1, nu_2, au_lt, nu_lt, aw_e, nw_e, au_s, au_n, nu_s, nu_n, au_au, nu_nu, au_nu]
    refine w_callV1 (pc' := 35) (mc := 0) (ms := 0) dX1_isFound_32 rfl tX1_wide q1469 rfl rfl qs62 q1467 ov_o rfl (Nat.le_of_ble_eq_true rfl) (Nat.le_of_ble_eq_true rfl) ?_
    refine c_X1_wide hR hP hq (by omega) ?_
    refine w_p1 ?_
    refine w_goto (tgt := 44) dX1_isFound_35 rfl ?_
    refine w_ist7 (pc' := 46) dX1_isFound_44 rfl rfl ?_
    -- at 46: .iconst 1
    try simp (decide := true) only [au_1, nu_2, au_lt, nu_lt, aw_e, nw_e, au_s, au_n, nu_s, nu_n, au_au, nu_nu, au_nu]
    exact main
theorem nFnd_s {σ : MS} {p q i t : Int} (h : 0 ≤ t) : nFnd σ p q i (t + 1) = nFnd σ p q i t + b1 (fnd σ p q i ((σ.2 7 (rw_ σ p i)) + t / 8) (t % 8)) := by
  unfold nFnd
  rw [sm_s h]; omega
theorem nFnd_r {σ : MS} {p q i t : Int} (hl : ∀ i', 0 ≤ i' → i' < i → 0 ≤ (σ.2 6 (rw_ σ p i')) ∧ (σ.2 6 (rw_ σ p i')) ≤ 60) (hi : 0 ≤ i ∧ i ≤ 60) (ht : 0 ≤ t ∧ t ≤ 480) : 0 ≤ nFnd σ p q i t ∧ nFnd σ p q i t ≤ 30000 := by
  unfold nFnd
  have h1 := sm_r (f := fun t => b1 (fnd σ p q i ((σ.2 7 (rw_ σ p i)) + t / 8) (t % 8))) 1 ht.1 (fun _ _ _ => b1_r _)
  have h2 := sm_r (f := fun i => sm (fun t => b1 (fnd σ p q i ((σ.2 7 (rw_ σ p i)) + t / 8) (t % 8))) (8 * (σ.2 6 (rw_ σ p i)))) 480 hi.1 (fun i' q0 q1 => by
    have hl := hl i' q0 q1
    have := sm_r (f := fun t => b1 (fnd σ p q i' ((σ.2 7 (rw_ σ p i')) + t / 8) (t % 8))) (n := 8 * (σ.2 6 (rw_ σ p i'))) 1 (by omega) (fun _ _ _ => b1_r _)
    omega)
  omega
theorem c_X1_find {p q k : Int} (hK : kok σ) (hR : rok σ) (hP : pok σ) (hk : rg k) (h : ∀ x y, K (some (xI (aFind σ p q k))) (ov (nu (nu σ 18 x) 19 y) G0)) : tvW mX1_find (d + 5) K 0 [some (xR mR), some (xI p), some (xI q), some (xI k), none, none, none, none, none] [] (ov σ G0) bc bs := by
  have e0 : (nu (nu σ 18 (σ.1 18)) 19 (σ.1 19)) = σ := by rw [nu_id, nu_id]
  unfold aFind at h
  have bad : ¬ ((0 ≤ p ∧ p < σ.1 12) ∧ (0 ≤ q ∧ q < σ.1 12) ∧ full σ q ∧ 0 ≤ k) → tvW mX1_find (d + 5) K 28 [some (xR mR), some (xI p), some (xI q), some (xI k), none, none, none, none, none] [] (ov σ G0) bc bs := by
    intro z
    rw [ic_f z] at h
    have h := h (σ.1 18) (σ.1 19)
    rw [e0] at h
    refine w_iconst (pc' := 29) dX1_find_28 rfl (by decide) ?_
    -- at 29: .ireturn
    try simp (decide := true) only [au_1, nu_2, au_lt, nu_lt, aw_e, nw_e, au_s, au_n, nu_s, nu_n, au_au, nu_nu, au_nu]
    refine w_ireturn dX1_find_29 rfl ?_
    exact h
  refine w_aload_n (pc' := 1) dX1_find_0 rfl rfl ?_
  refine w_iload_n (pc' := 2) dX1_find_1 rfl rfl ?_
  refine w_callV1 (pc' := 5) (mc := 0) (ms := 0) dX1_find_2 rfl tX1_isPattern q1294 rfl rfl qs42 q1292 ov_o rfl (Nat.le_of_ble_eq_true rfl) (Nat.le_of_ble_eq_true rfl) ?_
  refine c_X1_isPattern  (fun g2a g2b => w_p1 ?_) (fun g2 => w_p1 ?_)
  rotate_left
  · refine w_if_eq (pc' := 8) (tgt := 28) dX1_find_5 rfl rfl (fun h_ => ?_) (fun h_ => False.elim (by omega))
    exact bad (fun z => g2 z.1)
  refine w_if_eq (pc' := 8) (tgt := 28) dX1_find_5 rfl rfl (fun h_ => False.elim (by omega)) (fun h_ => ?_)
  -- at 8: .aload_n 0
  refine w_aload_n (pc' := 9) dX1_find_8 rfl rfl ?_
  refine w_iload_n (pc' := 10) dX1_find_9 rfl rfl ?_
  refine w_callV1 (pc' := 13) (mc := 0) (ms := 0) dX1_find_10 rfl tX1_isPattern q1294 rfl rfl qs42 q1292 ov_o rfl (Nat.le_of_ble_eq_true rfl) (Nat.le_of_ble_eq_true rfl) ?_
  refine c_X1_isPattern  (fun g10a g10b => w_p1 ?_) (fun g10 => w_p1 ?_)
  rotate_left
  · refine w_if_eq (pc' := 16) (tgt := 28) dX1_find_13 rfl rfl (fun h_ => ?_) (fun h_ => False.elim (by omega))
    exact bad (fun z => g10 z.2.1)
  refine w_if_eq (pc' := 16) (tgt := 28) dX1_find_13 rfl rfl (fun h_ => False.elim (by omega)) (fun h_ => ?_)
  -- at 16: .aload_n 0
  refine w_aload_n (pc' := 17) dX1_find_16 rfl rfl ?_
  refine w_iload_n (pc' := 18) dX1_find_17 rfl rfl ?_
  refine w_callV1 (pc' := 21) (mc := 0) (ms := 0) dX1_find_18 rfl tX1_isFull q1461 rfl rfl qs60 q1459 ov_o rfl (Nat.le_of_ble_eq_true rfl) (Nat.le_of_ble_eq_true rfl) ?_
  refine c_X1_isFull hR hP ⟨g10a, g10b⟩ (fun g18a => w_p1 ?_) (fun g18 => w_p1 ?_)
  rotate_left
  · refine w_if_eq (pc' := 24) (tgt := 28) dX1_find_21 rfl rfl (fun h_ => ?_) (fun h_ => False.elim (by omega))
    exact bad (fun z => g18 z.2.2.1)
  refine w_if_eq (pc' := 24) (tgt := 28) dX1_find_21 rfl rfl (fun h_ => False.elim (by omega)) (fun h_ => ?_)
  -- at 24: .iload_n 3
  refine w_iload_n (pc' := 25) dX1_find_24 rfl rfl ?_
  refine w_if_ge (pc' := 28) (tgt := 30) dX1_find_25 rfl rfl (fun g25 => ?_) (fun g25 => by exact bad (fun z => by have := z.2.2.2; omega))
  -- at 30: .iload_n 3
  have hp : 0 ≤ p ∧ p < σ.1 12 := ⟨g2a, g2b⟩
  have hq : 0 ≤ q ∧ q < σ.1 12 := ⟨g10a, g10b⟩
  have hf : full σ q := g18a
  rw [ic_t ⟨hp, hq, hf, g25⟩] at h
  have hM := (hP.2 p hp.1 hp.2).1
  have hp1 := hP.1
  refine w_iload_n (pc' := 31) dX1_find_30 rfl rfl ?_
  refine w_ist4 (pc' := 33) dX1_find_31 rfl rfl ?_
  refine w_iconst (pc' := 34) dX1_find_33 rfl (by decide) ?_
  refine w_ist5 (pc' := 36) dX1_find_34 rfl rfl ?_
  -- at 36: .iload 5
  try simp (decide := true) only [au_1, nu_2, au_lt, nu_lt, aw_e, nw_e, au_s, au_n, nu_s, nu_n, au_au, nu_nu, au_nu]
  refine w_ms (τ := (nu (nu σ 18 (σ.1 18)) 19 (σ.1 19))) e0.symm ?_
  refine w_L (L' := [some (xR mR), some (xI p), some (xI q), some (xI k), some (xI (k - nFnd σ p q 0 0)), some (xI 0), none, none, none]) (by rw [show nFnd σ p q 0 0 = 0 from rfl, Int.sub_zero]) ?_
  refine up (T := fun i => ∀ x y x6 x7 x8, (∀ i', 0 ≤ i' → i' < i → ∀ t, 0 ≤ t → t < 8 * (σ.2 6 (rw_ σ p i')) → ¬ (fun i t => fnd σ p q i ((σ.2 7 (rw_ σ p i)) + t / 8) (t % 8) ∧ nFnd σ p q i t = k) i' t) → tvW mX1_find (d + 5) K 36 [some (xR mR), some (xI p), some (xI q), some (xI k), some (xI (k - nFnd σ p q i 0)), some (xI i), x6, x7, x8] [] (ov (nu (nu σ 18 x) 19 y) G0) bc bs) (σ.2 11 p) hM.1 (fun x y x6 x7 x8 hn => ?_) (fun i i0 i1 ih x y x6 x7 x8 hn => ?_) _ _ _ _ _ (fun i' a b => by omega)
  · rw [fi2_no hn] at h
    refine w_iload (pc' := 38) dX1_find_36 rfl rfl ?_
    refine w_aload_n (pc' := 39) dX1_find_38 rfl rfl ?_
    refine w_mga 11 (pc' := 42) dX1_find_39 rfl fX1_40_1 rfl ?_
    refine w_iload_n (pc' := 43) dX1_find_42 rfl rfl ?_
    refine w_mild (pc' := 44) dX1_find_43 rfl rfl (by first | omega | (simp (decide := true) only [au_1, nu_2, au_lt, nu_lt, aw_e, nw_e, au_s, au_n, nu_s, nu_n, au_au, nu_nu, au_nu]; omega)) (by first | omega | (simp (decide := true) only [au_1, nu_2, au_lt, nu_lt, aw_e, nw_e, au_s, au_n, nu_s, nu_n, au_au, nu_nu, au_nu]; omega)) ?_
    -- at 44: .if_icmp .ge 105
    try simp (decide := true) only [au_1, nu_2, au_lt, nu_lt, aw_e, nw_e, au_s, au_n, nu_s, nu_n, au_au, nu_nu, au_nu]
    refine w_icmp_ge (pc' := 47) (tgt := 149) dX1_find_44 rfl rfl (fun h_ => ?_) (fun h_ => False.elim (by first | omega | (simp (decide := true) only [au_1, nu_2, au_lt, nu_lt, aw_e, nw_e, au_s, au_n, nu_s, nu_n, au_au, nu_nu, au_nu] at h_; omega)))
    refine w_iconst (pc' := 150) dX1_find_149 rfl (by decide) ?_
    -- at 150: .ireturn
    try simp (decide := true) only [au_1, nu_2, au_lt, nu_lt, aw_e, nw_e, au_s, au_n, nu_s, nu_n, au_au, nu_nu, au_nu]
    refine w_ireturn dX1_find_150 rfl ?_
    exact h x y
  · obtain ⟨b1r, b2, b3, b4, b5, b6⟩ := prow hR hP hp i0 i1
    have hlr : ∀ i', 0 ≤ i' → i' < i → 0 ≤ (σ.2 6 (rw_ σ p i')) ∧ (σ.2 6 (rw_ σ p i')) ≤ 60 := fun i' q0 q1 => (prow hR hP hp q0 (show i' < σ.2 11 p by omega)).2.1
    refine w_iload (pc' := 38) dX1_find_36 rfl rfl ?_
    refine w_aload_n (pc' := 39) dX1_find_38 rfl rfl ?_
    refine w_mga 11 (pc' := 42) dX1_find_39 rfl fX1_40_1 rfl ?_
    refine w_iload_n (pc' := 43) dX1_find_42 rfl rfl ?_
    refine w_mild (pc' := 44) dX1_find_43 rfl rfl (by first | omega | (simp (decide := true) only [au_1, nu_2, au_lt, nu_lt, aw_e, nw_e, au_s, au_n, nu_s, nu_n, au_au, nu_nu, au_nu]; omega)) (by first | omega | (simp (decide := true) only [au_1, nu_2, au_lt, nu_lt, aw_e, nw_e, au_s, au_n, nu_s, nu_n, au_au, nu_nu, au_nu]; omega)) ?_
    -- at 44: .if_icmp .ge 105
    try simp (decide := true) only [au_1, nu_2, au_lt, nu_lt, aw_e, nw_e, au_s, au_n, nu_s, nu_n, au_au, nu_nu, au_nu]
    refine w_icmp_ge (pc' := 47) (tgt := 149) dX1_find_44 rfl rfl (fun h_ => False.elim (by first | omega | (simp (decide := true) only [au_1, nu_2, au_lt, nu_lt, aw_e, nw_e, au_s, au_n, nu_s, nu_n, au_au, nu_nu, au_nu] at h_; omega))) (fun h_ => ?_)
    refine w_aload_n (pc' := 48) dX1_find_47 rfl rfl ?_
    refine w_iload_n (pc' := 49) dX1_find_48 rfl rfl ?_
    refine w_iload (pc' := 51) dX1_find_49 rfl rfl ?_
    -- at 51: .invokevirtual 175
    try simp (decide := true) only [au_1, nu_2, au_lt, nu_lt, aw_e, nw_e, au_s, au_n, nu_s, nu_n, au_au, nu_nu, au_nu]
    refine w_callV2 (pc' := 54) (mc := 0) (ms := 0) dX1_find_51 rfl tX1_rowOf q1302 rfl rfl qs44 q1300 ov_o rfl (Nat.le_of_ble_eq_true rfl) (Nat.le_of_ble_eq_true rfl) ?_
    refine c_X1_rowOf b5 b4 ?_
    refine w_p1 ?_
    refine w_st (st' := [xI (rw_ σ p i)]) rfl ?_
    refine w_ist6 (pc' := 56) dX1_find_54 rfl rfl ?_
    refine w_iconst (pc' := 57) dX1_find_56 rfl (by decide) ?_
    refine w_ist7 (pc' := 59) dX1_find_57 rfl rfl ?_
    -- at 59: .iload 7
    try simp (decide := true) only [au_1, nu_2, au_lt, nu_lt, aw_e, nw_e, au_s, au_n, nu_s, nu_n, au_au, nu_nu, au_nu]
    refine w_L (L' := [some (xR mR), some (xI p), some (xI q), some (xI k), some (xI (k - nFnd σ p q i (8 * 0))), some (xI i), some (xI (rw_ σ p i)), some (xI 0), x8]) rfl ?_
    refine up (T := fun n => ∀ x y x8, (∀ t, 0 ≤ t → t < 8 * n → ¬ (fun i t => fnd σ p q i ((σ.2 7 (rw_ σ p i)) + t / 8) (t % 8) ∧ nFnd σ p q i t = k) i t) → tvW mX1_find (d + 5) K 59 [some (xR mR), some (xI p), some (xI q), some (xI k), some (xI (k - nFnd σ p q i (8 * n))), some (xI i), some (xI (rw_ σ p i)), some (xI n), x8] [] (ov (nu (nu σ 18 x) 19 y) G0) bc bs) (σ.2 6 (rw_ σ p i)) b2.1 (fun x y x8 hk => ?_) (fun n n0 n1 ihn x y x8 hk => ?_) _ _ _ (fun k' a b => by omega)
    · refine w_iload (pc' := 61) dX1_find_59 rfl rfl ?_
      refine w_aload_n (pc' := 62) dX1_find_61 rfl rfl ?_
      refine w_mga 6 (pc' := 65) dX1_find_62 rfl fX1_27_1 rfl ?_
      refine w_iload (pc' := 67) dX1_find_65 rfl rfl ?_
      refine w_mild (pc' := 68) dX1_find_67 rfl rfl (by first | omega | (simp (decide := true) only [au_1, nu_2, au_lt, nu_lt, aw_e, nw_e, au_s, au_n, nu_s, nu_n, au_au, nu_nu, au_nu]; omega)) (by first | omega | (simp (decide := true) only [au_1, nu_2, au_lt, nu_lt, aw_e, nw_e, au_s, au_n, nu_s, nu_n, au_au, nu_nu, au_nu]; omega)) ?_
      -- at 68: .if_icmp .ge 75
      try simp (decide := true) only [au_1, nu_2, au_lt, nu_lt, aw_e, nw_e, au_s, au_n, nu_s, nu_n, au_au, nu_nu, au_nu]
      refine w_icmp_ge (pc' := 71) (tgt := 143) dX1_find_68 rfl rfl (fun h_ => ?_) (fun h_ => False.elim (by first | omega | (simp (decide := true) only [au_1, nu_2, au_lt, nu_lt, aw_e, nw_e, au_s, au_n, nu_s, nu_n, au_au, nu_nu, au_nu] at h_; omega)))
      refine w_inc5 (pc' := 146) dX1_find_143 rfl rfl ⟨by first | omega | (simp (decide := true) only [au_1, nu_2, au_lt, nu_lt, aw_e, nw_e, au_s, au_n, nu_s, nu_n, au_au, nu_nu, au_nu]; omega), by first | omega | (simp (decide := true) only [au_1, nu_2, au_lt, nu_lt, aw_e, nw_e, au_s, au_n, nu_s, nu_n, au_au, nu_nu, au_nu]; omega)⟩ ?_
      refine w_goto (tgt := 36) dX1_find_146 rfl ?_
      -- at 36: .iload 5
      try simp (decide := true) only [au_1, nu_2, au_lt, nu_lt, aw_e, nw_e, au_s, au_n, nu_s, nu_n, au_au, nu_nu, au_nu]
      have e : nFnd σ p q i (8 * (σ.2 6 (rw_ σ p i))) = nFnd σ p q (i + 1) 0 := by
        unfold nFnd
        rw [sm_s i0, sm_0, Int.add_zero]
      rw [e]
      refine ih _ _ _ _ _ (fun i' q0 q1 => ?_)
      by_cases e : i' = i
      · rw [e]; exact hk
      · exact hn i' q0 (by omega)
    · refine w_iload (pc' := 61) dX1_find_59 rfl rfl ?_
      refine w_aload_n (pc' := 62) dX1_find_61 rfl rfl ?_
      refine w_mga 6 (pc' := 65) dX1_find_62 rfl fX1_27_1 rfl ?_
      refine w_iload (pc' := 67) dX1_find_65 rfl rfl ?_
      refine w_mild (pc' := 68) dX1_find_67 rfl rfl (by first | omega | (simp (decide := true) only [au_1, nu_2, au_lt, nu_lt, aw_e, nw_e, au_s, au_n, nu_s, nu_n, au_au, nu_nu, au_nu]; omega)) (by first | omega | (simp (decide := true) only [au_1, nu_2, au_lt, nu_lt, aw_e, nw_e, au_s, au_n, nu_s, nu_n, au_au, nu_nu, au_nu]; omega)) ?_
      -- at 68: .if_icmp .ge 75
      try simp (decide := true) only [au_1, nu_2, au_lt, nu_lt, aw_e, nw_e, au_s, au_n, nu_s, nu_n, au_au, nu_nu, au_nu]
      refine w_icmp_ge (pc' := 71) (tgt := 143) dX1_find_68 rfl rfl (fun h_ => False.elim (by first | omega | (simp (decide := true) only [au_1, nu_2, au_lt, nu_lt, aw_e, nw_e, au_s, au_n, nu_s, nu_n, au_au, nu_nu, au_nu] at h_; omega))) (fun h_ => ?_)
      refine w_iconst (pc' := 72) dX1_find_71 rfl (by decide) ?_
      refine w_ist8 (pc' := 74) dX1_find_72 rfl rfl ?_
      -- at 74: .iload 8
      try simp (decide := true) only [au_1, nu_2, au_lt, nu_lt, aw_e, nw_e, au_s, au_n, nu_s, nu_n, au_au, nu_nu, au_nu]
      refine w_L (L' := [some (xR mR), some (xI p), some (xI q), some (xI k), some (xI (k - nFnd σ p q i (8 * n + 0))), some (xI i), some (xI (rw_ σ p i)), some (xI n), some (xI 0)]) (by rw [Int.add_zero]) ?_
      refine up (T := fun m => ∀ x y, (∀ t, 0 ≤ t → t < 8 * n + m → ¬ (fun i t => fnd σ p q i ((σ.2 7 (rw_ σ p i)) + t / 8) (t % 8) ∧ nFnd σ p q i t = k) i t) → tvW mX1_find (d + 5) K 74 [some (xR mR), some (xI p), some (xI q), some (xI k), some (xI (k - nFnd σ p q i (8 * n + m))), some (xI i), some (xI (rw_ σ p i)), some (xI n), some (xI m)] [] (ov (nu (nu σ 18 x) 19 y) G0) bc bs) (a := 0) 8 (by omega) (fun x y hm => ?_) (fun m m0 m1 ihm x y hm => ?_) _ _ (by rw [Int.add_zero]; exact hk)
      · refine w_iload (pc' := 76) dX1_find_74 rfl rfl ?_
        refine w_bipush (pc' := 78) dX1_find_76 rfl (by decide +kernel) (by decide) ?_
        -- at 78: .if_icmp .ge 59
        try simp (decide := true) only [au_1, nu_2, au_lt, nu_lt, aw_e, nw_e, au_s, au_n, nu_s, nu_n, au_au, nu_nu, au_nu]
        refine w_icmp_ge (pc' := 81) (tgt := 137) dX1_find_78 rfl rfl (fun h_ => ?_) (fun h_ => False.elim (by first | omega | (simp (decide := true) only [au_1, nu_2, au_lt, nu_lt, aw_e, nw_e, au_s, au_n, nu_s, nu_n, au_au, nu_nu, au_nu] at h_; omega)))
        refine w_inc7 (pc' := 140) dX1_find_137 rfl rfl ⟨by first | omega | (simp (decide := true) only [au_1, nu_2, au_lt, nu_lt, aw_e, nw_e, au_s, au_n, nu_s, nu_n, au_au, nu_nu, au_nu]; omega), by first | omega | (simp (decide := true) only [au_1, nu_2, au_lt, nu_lt, aw_e, nw_e, au_s, au_n, nu_s, nu_n, au_au, nu_nu, au_nu]; omega)⟩ ?_
        refine w_goto (tgt := 59) dX1_find_140 rfl ?_
        -- at 59: .iload 7
        try simp (decide := true) only [au_1, nu_2, au_lt, nu_lt, aw_e, nw_e, au_s, au_n, nu_s, nu_n, au_au, nu_nu, au_nu]
        rw [show 8 * n + 8 = 8 * (n + 1) by omega] at hm ⊢
        exact ihn _ _ _ hm
      · have hr := nFnd_r (q := q) (t := 8 * n + m) hlr ⟨i0, by omega⟩ ⟨by omega, by omega⟩
        have hstep := nFnd_s (σ := σ) (p := p) (q := q) (i := i) (t := 8 * n + m) (by omega)
        rw [show (8 * n + m) / 8 = n by omega, show (8 * n + m) % 8 = m by omega] at hstep
        rw [show 8 * n + (m + 1) = 8 * n + m + 1 by omega, hstep] at ihm
        have lastP : ¬ (fun i t => fnd σ p q i ((σ.2 7 (rw_ σ p i)) + t / 8) (t % 8) ∧ nFnd σ p q i t = k) i (8 * n + m) → ∀ t, 0 ≤ t → t < 8 * n + m + 1 → ¬ (fun i t => fnd σ p q i ((σ.2 7 (rw_ σ p i)) + t / 8) (t % 8) ∧ nFnd σ p q i t = k) i t := by
          intro z t t0 t1
          by_cases e : t = 8 * n + m
          · rw [e]; exact z
          · exact hm t t0 (by omega)
        have ePP : (fun i t => fnd σ p q i ((σ.2 7 (rw_ σ p i)) + t / 8) (t % 8) ∧ nFnd σ p q i t = k) i (8 * n + m) = (fnd σ p q i ((σ.2 7 (rw_ σ p i)) + n) m ∧ nFnd σ p q i (8 * n + m) = k) := by
          show (fnd σ p q i ((σ.2 7 (rw_ σ p i)) + (8 * n + m) / 8) ((8 * n + m) % 8) ∧ _) = _
          rw [show (8 * n + m) / 8 = n by omega, show (8 * n + m) % 8 = m by omega]
        rw [ePP] at lastP
        refine w_iload (pc' := 76) dX1_find_74 rfl rfl ?_
        refine w_bipush (pc' := 78) dX1_find_76 rfl (by decide +kernel) (by decide) ?_
        -- at 78: .if_icmp .ge 59
        try simp (decide := true) only [au_1, nu_2, au_lt, nu_lt, aw_e, nw_e, au_s, au_n, nu_s, nu_n, au_au, nu_nu, au_nu]
        refine w_icmp_ge (pc' := 81) (tgt := 137) dX1_find_78 rfl rfl (fun h_ => False.elim (by first | omega | (simp (decide := true) only [au_1, nu_2, au_lt, nu_lt, aw_e, nw_e, au_s, au_n, nu_s, nu_n, au_au, nu_nu, au_nu] at h_; omega))) (fun h_ => ?_)
        refine w_aload_n (pc' := 82) dX1_find_81 rfl rfl ?_
        refine w_iload_n (pc' := 83) dX1_find_82 rfl rfl ?_
        refine w_iload_n (pc' := 84) dX1_find_83 rfl rfl ?_
        refine w_iload (pc' := 86) dX1_find_84 rfl rfl ?_
        refine w_aload_n (pc' := 87) dX1_find_86 rfl rfl ?_
        refine w_mga 7 (pc' := 90) dX1_find_87 rfl fX1_30_1 rfl ?_
        refine w_iload (pc' := 92) dX1_find_90 rfl rfl ?_
        refine w_mild (pc' := 93) dX1_find_92 rfl rfl (by first | omega | (simp (decide := true) only [au_1, nu_2, au_lt, nu_lt, aw_e, nw_e, au_s, au_n, nu_s, nu_n, au_au, nu_nu, au_nu]; omega)) (by first | omega | (simp (decide := true) only [au_1, nu_2, au_lt, nu_lt, aw_e, nw_e, au_s, au_n, nu_s, nu_n, au_au, nu_nu, au_nu]; omega)) ?_
        refine w_iload (pc' := 95) dX1_find_93 rfl rfl ?_
        refine w_iadd (pc' := 96) dX1_find_95 rfl ⟨by first | omega | (simp (decide := true) only [au_1, nu_2, au_lt, nu_lt, aw_e, nw_e, au_s, au_n, nu_s, nu_n, au_au, nu_nu, au_nu]; omega), by first | omega | (simp (decide := true) only [au_1, nu_2, au_lt, nu_lt, aw_e, nw_e, au_s, au_n, nu_s, nu_n, au_au, nu_nu, au_nu]; omega)⟩ ?_
        refine w_iload (pc' := 98) dX1_find_96 rfl rfl ?_
        -- at 98: .invokevirtual 281
        try simp (decide := true) only [au_1, nu_2, au_lt, nu_lt, aw_e, nw_e, au_s, au_n, nu_s, nu_n, au_au, nu_nu, au_nu]
        refine w_callV5 (pc' := 101) (mc := 0) (ms := 0) dX1_find_98 rfl tX1_isFound q1485 rfl rfl qs64 q1483 ov_o rfl (Nat.le_of_ble_eq_true rfl) (Nat.le_of_ble_eq_true rfl) ?_
        refine c_X1_isFound (show kok _ from hK) (show rok _ from hR) (show pok _ from hP) hp hq hf ⟨m0, m1⟩ ⟨i0, by omega⟩ ⟨show -1000 ≤ (σ.2 7 (rw_ σ p i)) + n by omega, show (σ.2 7 (rw_ σ p i)) + n ≤ 1000 by omega⟩ (fun z x y => w_p1 ?_) (fun z x y => w_p1 ?_)
        · have z : fnd σ p q i ((σ.2 7 (rw_ σ p i)) + n) m := z
          rw [b1_t z] at ihm
          try simp (decide := true) only [au_1, nu_2, au_lt, nu_lt, aw_e, nw_e, au_s, au_n, nu_s, nu_n, au_au, nu_nu, au_nu]
          refine w_if_ne (pc' := 104) (tgt := 107) dX1_find_101 rfl rfl (fun h_ => ?_) (fun h_ => False.elim (by first | omega | (simp (decide := true) only [au_1, nu_2, au_lt, nu_lt, aw_e, nw_e, au_s, au_n, nu_s, nu_n, au_au, nu_nu, au_nu] at h_; omega)))
          refine w_iload (pc' := 109) dX1_find_107 rfl rfl ?_
          -- at 109: .ifCond .ne 19
          try simp (decide := true) only [au_1, nu_2, au_lt, nu_lt, aw_e, nw_e, au_s, au_n, nu_s, nu_n, au_au, nu_nu, au_nu]
          refine w_if_ne (pc' := 112) (tgt := 128) dX1_find_109 rfl rfl (fun g => ?_) (fun g => ?_)
          · refine w_inc4 (pc' := 131) dX1_find_128 rfl rfl ⟨by first | omega | (simp (decide := true) only [au_1, nu_2, au_lt, nu_lt, aw_e, nw_e, au_s, au_n, nu_s, nu_n, au_au, nu_nu, au_nu]; omega), by first | omega | (simp (decide := true) only [au_1, nu_2, au_lt, nu_lt, aw_e, nw_e, au_s, au_n, nu_s, nu_n, au_au, nu_nu, au_nu]; omega)⟩ ?_
            refine w_inc8 (pc' := 134) dX1_find_131 rfl rfl ⟨by first | omega | (simp (decide := true) only [au_1, nu_2, au_lt, nu_lt, aw_e, nw_e, au_s, au_n, nu_s, nu_n, au_au, nu_nu, au_nu]; omega), by first | omega | (simp (decide := true) only [au_1, nu_2, au_lt, nu_lt, aw_e, nw_e, au_s, au_n, nu_s, nu_n, au_au, nu_nu, au_nu]; omega)⟩ ?_
            refine w_goto (tgt := 74) dX1_find_134 rfl ?_
            -- at 74: .iload 8
            try simp (decide := true) only [au_1, nu_2, au_lt, nu_lt, aw_e, nw_e, au_s, au_n, nu_s, nu_n, au_au, nu_nu, au_nu]
            rw [show k - nFnd σ p q i (8 * n + m) + -1 = k - (nFnd σ p q i (8 * n + m) + 1) by omega]
            exact ihm _ _ (lastP (fun w => g (by have := w.2; omega)))
          · have hPP : (fun i t => fnd σ p q i ((σ.2 7 (rw_ σ p i)) + t / 8) (t % 8) ∧ nFnd σ p q i t = k) i (8 * n + m) := by rw [ePP]; exact ⟨z, by omega⟩
            rw [fi2_hit (P := (fun i t => fnd σ p q i ((σ.2 7 (rw_ σ p i)) + t / 8) (t % 8) ∧ nFnd σ p q i t = k)) (len := fun i => 8 * (σ.2 6 (rw_ σ p i))) i0 i1 (show 0 ≤ 8 * n + m by omega) (show 8 * n + m < 8 * (σ.2 6 (rw_ σ p i)) by omega) hPP hm hn, show (8 * n + m) / 8 = n by omega, show (8 * n + m) % 8 = m by omega] at h
            refine w_sipush (pc' := 115) dX1_find_112 rfl (by decide +kernel) (by decide) ?_
            refine w_iload (pc' := 117) dX1_find_115 rfl rfl ?_
            refine w_imul (pc' := 118) dX1_find_117 rfl ⟨by first | omega | (simp (decide := true) only [au_1, nu_2, au_lt, nu_lt, aw_e, nw_e, au_s, au_n, nu_s, nu_n, au_au, nu_nu, au_nu]; omega), by first | omega | (simp (decide := true) only [au_1, nu_2, au_lt, nu_lt, aw_e, nw_e, au_s, au_n, nu_s, nu_n, au_au, nu_nu, au_nu]; omega)⟩ ?_
            refine w_bipush (pc' := 120) dX1_find_118 rfl (by decide +kernel) (by decide) ?_
            refine w_iload (pc' := 122) dX1_find_120 rfl rfl ?_
            refine w_imul (pc' := 123) dX1_find_122 rfl ⟨by first | omega | (simp (decide := true) only [au_1, nu_2, au_lt, nu_lt, aw_e, nw_e, au_s, au_n, nu_s, nu_n, au_au, nu_nu, au_nu]; omega), by first | omega | (simp (decide := true) only [au_1, nu_2, au_lt, nu_lt, aw_e, nw_e, au_s, au_n, nu_s, nu_n, au_au, nu_nu, au_nu]; omega)⟩ ?_
            refine w_iadd (pc' := 124) dX1_find_123 rfl ⟨by first | omega | (simp (decide := true) only [au_1, nu_2, au_lt, nu_lt, aw_e, nw_e, au_s, au_n, nu_s, nu_n, au_au, nu_nu, au_nu]; omega), by first | omega | (simp (decide := true) only [au_1, nu_2, au_lt, nu_lt, aw_e, nw_e, au_s, au_n, nu_s, nu_n, au_au, nu_nu, au_nu]; omega)⟩ ?_
            refine w_iload (pc' := 126) dX1_find_124 rfl rfl ?_
            refine w_iadd (pc' := 127) dX1_find_126 rfl ⟨by first | omega | (simp (decide := true) only [au_1, nu_2, au_lt, nu_lt, aw_e, nw_e, au_s, au_n, nu_s, nu_n, au_au, nu_nu, au_nu]; omega), by first | omega | (simp (decide := true) only [au_1, nu_2, au_lt, nu_lt, aw_e, nw_e, au_s, au_n, nu_s, nu_n, au_au, nu_nu, au_nu]; omega)⟩ ?_
            -- at 127: .ireturn
            try simp (decide := true) only [au_1, nu_2, au_lt, nu_lt, aw_e, nw_e, au_s, au_n, nu_s, nu_n, au_au, nu_nu, au_nu]
            refine w_ireturn dX1_find_127 rfl ?_
            exact h _ _
        · have z : ¬ fnd σ p q i ((σ.2 7 (rw_ σ p i)) + n) m := z
          rw [b1_f z, Int.add_zero] at ihm
          try simp (decide := true) only [au_1, nu_2, au_lt, nu_lt, aw_e, nw_e, au_s, au_n, nu_s, nu_n, au_au, nu_nu, au_nu]
          refine w_if_ne (pc' := 104) (tgt := 107) dX1_find_101 rfl rfl (fun h_ => False.elim (by first | omega | (simp (decide := true) only [au_1, nu_2, au_lt, nu_lt, aw_e, nw_e, au_s, au_n, nu_s, nu_n, au_au, nu_nu, au_nu] at h_; omega))) (fun h_ => ?_)
          refine w_goto (tgt := 131) dX1_find_104 rfl ?_
          refine w_inc8 (pc' := 134) dX1_find_131 rfl rfl ⟨by first | omega | (simp (decide := true) only [au_1, nu_2, au_lt, nu_lt, aw_e, nw_e, au_s, au_n, nu_s, nu_n, au_au, nu_nu, au_nu]; omega), by first | omega | (simp (decide := true) only [au_1, nu_2, au_lt, nu_lt, aw_e, nw_e, au_s, au_n, nu_s, nu_n, au_au, nu_nu, au_nu]; omega)⟩ ?_
          refine w_goto (tgt := 74) dX1_find_134 rfl ?_
          -- at 74: .iload 8
          try simp (decide := true) only [au_1, nu_2, au_lt, nu_lt, aw_e, nw_e, au_s, au_n, nu_s, nu_n, au_au, nu_nu, au_nu]
          exact ihm _ _ (lastP (fun w => z w.1))
end
