set_option maxRecDepth 10000
/-! what is seen of a pattern -/
/-- the value at the first place (i, k) with P, row by row -/
noncomputable def fi2 (P : Int → Int → Prop) (m : Int) (len : Int → Int) (val : Int → Int → Int) (z : Int) : Int := @dite Int (∃ q : Int × Int, (0 ≤ q.1 ∧ q.1 < m) ∧ (0 ≤ q.2 ∧ q.2 < len q.1) ∧ P q.1 q.2 ∧ (∀ k, 0 ≤ k → k < q.2 → ¬ P q.1 k) ∧ ∀ i, 0 ≤ i → i < q.1 → ∀ k, 0 ≤ k → k < len i → ¬ P i k) (Classical.propDecidable _) (fun h => val h.choose.1 h.choose.2) (fun _ => z)
theorem fi2_hit {P : Int → Int → Prop} {m : Int} {len : Int → Int} {val : Int → Int → Int} {z i k : Int} (i0 : 0 ≤ i) (i1 : i < m) (k0 : 0 ≤ k) (k1 : k < len i) (h : P i k) (h1 : ∀ k', 0 ≤ k' → k' < k → ¬ P i k') (h2 : ∀ i', 0 ≤ i' → i' < i → ∀ k, 0 ≤ k → k < len i' → ¬ P i' k) : fi2 P m len val z = val i k := by
  have e : ∃ q : Int × Int, (0 ≤ q.1 ∧ q.1 < m) ∧ (0 ≤ q.2 ∧ q.2 < len q.1) ∧ P q.1 q.2 ∧ (∀ k, 0 ≤ k → k < q.2 → ¬ P q.1 k) ∧ ∀ i, 0 ≤ i → i < q.1 → ∀ k, 0 ≤ k → k < len i → ¬ P i k := ⟨(i, k), ⟨i0, i1⟩, ⟨k0, k1⟩, h, h1, h2⟩
  unfold fi2
  rw [dif_pos e]
  obtain ⟨⟨a0, a1⟩, ⟨b0, b1⟩, cP, c1, c2⟩ := e.choose_spec
  have hi : e.choose.1 = i := by
    rcases Int.lt_trichotomy e.choose.1 i with q | q | q
    · exact absurd cP (h2 _ a0 q _ b0 b1)
    · exact q
    · exact absurd h (c2 i i0 q k k0 k1)
  have hk : e.choose.2 = k := by
    rw [hi] at cP c1
    rcases Int.lt_trichotomy e.choose.2 k with q | q | q
    · exact absurd cP (h1 _ b0 q)
    · exact q
    · exact absurd h (c1 k k0 q)
  rw [hi, hk]
theorem fi2_no {P : Int → Int → Prop} {m : Int} {len : Int → Int} {val : Int → Int → Int} {z : Int} (h : ∀ i, 0 ≤ i → i < m → ∀ k, 0 ≤ k → k < len i → ¬ P i k) : fi2 P m len val z = z := by
  unfold fi2
  exact @dif_neg _ (Classical.propDecidable _) (fun ⟨q, a, b, c, _⟩ => h _ a.1 a.2 _ b.1 b.2 c) _ _ _
theorem tb {x : Int} {p : Prop} (h : x = 1 ∧ p ∨ x = 0 ∧ ¬ p) : (x = 0 → ¬ p) ∧ (x ≠ 0 → p) := by
  rcases h with ⟨rfl, h⟩ | ⟨rfl, h⟩
  · exact ⟨fun q => absurd q (by decide), fun _ => h⟩
  · exact ⟨fun _ => h, fun q => absurd rfl q⟩
def ckd (c : Int) : Int := if c = 0 then -1 else kOf c
noncomputable def cnt1 (σ : MS) (p kd i : Int) : Int := sm (fun k => b1 (ckd (σ.2 8 (60 * rw_ σ p i + k)) = kd)) (σ.2 6 (rw_ σ p i))
noncomputable def aCount (σ : MS) (p kd : Int) : Int := ic ((0 ≤ p ∧ p < σ.1 12) ∧ (kd = -1 ∨ 0 ≤ kd ∧ kd < σ.1 5)) (sm (fun i => cnt1 σ p kd i) (σ.2 11 p)) (-1)
def frt (σ : MS) (p i k : Int) : Prop := ¬ hs_ σ p i ((σ.2 7 (rw_ σ p i)) + k + 1) ∨ ftt σ (σ.2 8 (60 * rw_ σ p i + k)) (ca_ σ p i ((σ.2 7 (rw_ σ p i)) + k + 1)) 1
def fbl (σ : MS) (p i k : Int) : Prop := ¬ hs_ σ p (i + 1) ((σ.2 7 (rw_ σ p i)) + k) ∨ ftt σ (σ.2 8 (60 * rw_ σ p i + k)) (ca_ σ p (i + 1) ((σ.2 7 (rw_ σ p i)) + k)) 2
noncomputable def aFits (σ : MS) (p : Int) : Int := ic (0 ≤ p ∧ p < σ.1 12) (fi2 (fun i k => ¬ (frt σ p i k ∧ fbl σ p i k)) (σ.2 11 p) (fun i => (σ.2 6 (rw_ σ p i))) (fun i k => 1 + 2 * (sm (fun i => (σ.2 6 (rw_ σ p i))) i + k) + b1 (frt σ p i k)) 0) (-1)
def cag (σ : MS) (p dn on : Int) : Prop := ∀ i, 0 ≤ i → i < σ.2 11 p → ∀ k, 0 ≤ k → k < (σ.2 6 (rw_ σ p i)) → hs_ σ p (i + dn) ((σ.2 7 (rw_ σ p i)) + k + on) → ca_ σ p (i + dn) ((σ.2 7 (rw_ σ p i)) + k + on) = (σ.2 8 (60 * rw_ σ p i + k))
noncomputable def aPer (σ : MS) (p w : Int) : Int := ic ((0 ≤ p ∧ p < σ.1 12) ∧ 0 ≤ w ∧ w ≤ 1) (fi (fun a => 1 ≤ a ∧ cag σ p (if w = 0 then a else 0) (if w = 0 then 0 else a)) 200) (-1)
/-- what is known of a row of a pattern -/
theorem prow {σ : MS} {p i : Int} (hR : rok σ) (hP : pok σ) (hp : 0 ≤ p ∧ p < σ.1 12) (i0 : 0 ≤ i) (i1 : i < σ.2 11 p) : (0 ≤ rw_ σ p i ∧ rw_ σ p i < 6000) ∧ (0 ≤ (σ.2 6 (rw_ σ p i)) ∧ (σ.2 6 (rw_ σ p i)) ≤ 60) ∧ (-30 ≤ (σ.2 7 (rw_ σ p i)) ∧ (σ.2 7 (rw_ σ p i)) ≤ 30) ∧ (0 ≤ i ∧ i < 60) ∧ (0 ≤ p ∧ p < 16) ∧ ∀ k, 0 ≤ k → k < (σ.2 6 (rw_ σ p i)) → isC (σ.1 5) (σ.2 8 (60 * rw_ σ p i + k)) := by
  obtain ⟨hm, hr⟩ := hP.2 p hp.1 hp.2
  obtain ⟨r1, r2⟩ := hr i i0 i1
  obtain ⟨l, o, c⟩ := hR.2 _ r1 r2
  have hm1 := hR.1
  have hp1 := hP.1
  exact ⟨by omega, l, o, by omega, by omega, c⟩
section
variable {d : Nat} {K : Option XV → GH → Prop} {G0 G : GH} {bc bs : Nat} {σ : MS} {M : tv_M} {pc : Nat} {L : List (Option XV)} {st : List XV}
theorem c_X1_count {p kd : Int} (hR : rok σ) (hP : pok σ) (h : K (some (xI (aCount σ p kd))) (ov σ G0)) : tvW mX1_count (d + 1) K 0 [some (xR mR), some (xI p), some (xI kd), none, none, none, none, none] [] (ov σ G0) bc bs := by
  unfold aCount at h
  have bad : ¬ ((0 ≤ p ∧ p < σ.1 12) ∧ (kd = -1 ∨ 0 ≤ kd ∧ kd < σ.1 5)) → tvW mX1_count (d + 1) K 21 [some (xR mR), some (xI p), some (xI kd), none, none, none, none, none] [] (ov σ G0) bc bs := by
    intro q
    rw [ic_f q] at h
    refine w_iconst (pc' := 22) dX1_count_21 rfl (by decide) ?_
    -- at 22: .ireturn
    try simp (decide := true) only [au_1, nu_2, au_lt, nu_lt, aw_e, nw_e, au_s, au_n, nu_s, nu_n, au_au, nu_nu, au_nu]
    refine w_ireturn dX1_count_22 rfl ?_
    exact h
  have main : (0 ≤ p ∧ p < σ.1 12) → (kd = -1 ∨ 0 ≤ kd ∧ kd < σ.1 5) → tvW mX1_count (d + 1) K 23 [some (xR mR), some (xI p), some (xI kd), none, none, none, none, none] [] (ov σ G0) bc bs := by
    intro hp hk
    rw [ic_t ⟨hp, hk⟩] at h
    have hM := (hP.2 p hp.1 hp.2).1
    have hp1 := hP.1
    refine w_iconst (pc' := 24) dX1_count_23 rfl (by decide) ?_
    refine w_ist3 (pc' := 25) dX1_count_24 rfl rfl ?_
    refine w_iconst (pc' := 26) dX1_count_25 rfl (by decide) ?_
    refine w_ist4 (pc' := 28) dX1_count_26 rfl rfl ?_
    -- at 28: .iload 4
    try simp (decide := true) only [au_1, nu_2, au_lt, nu_lt, aw_e, nw_e, au_s, au_n, nu_s, nu_n, au_au, nu_nu, au_nu]
    refine up (T := fun i => ∀ x5 x6 x7 : Option XV, tvW mX1_count (d + 1) K 28 [some (xR mR), some (xI p), some (xI kd), some (xI (sm (fun i => cnt1 σ p kd i) i)), some (xI i), x5, x6, x7] [] (ov σ G0) bc bs) (σ.2 11 p) hM.1 (fun x5 x6 x7 => ?_) (fun i i0 i1 ih x5 x6 x7 => ?_) _ _ _
    · refine w_iload (pc' := 30) dX1_count_28 rfl rfl ?_
      refine w_aload_n (pc' := 31) dX1_count_30 rfl rfl ?_
      refine w_mga 11 (pc' := 34) dX1_count_31 rfl fX1_40_1 rfl ?_
      refine w_iload_n (pc' := 35) dX1_count_34 rfl rfl ?_
      refine w_mild (pc' := 36) dX1_count_35 rfl rfl (by first | omega | (simp (decide := true) only [au_1, nu_2, au_lt, nu_lt, aw_e, nw_e, au_s, au_n, nu_s, nu_n, au_au, nu_nu, au_nu]; omega)) (by first | omega | (simp (decide := true) only [au_1, nu_2, au_lt, nu_lt, aw_e, nw_e, au_s, au_n, nu_s, nu_n, au_au, nu_nu, au_nu]; omega)) ?_
      -- at 36: .if_icmp .ge 89
      try simp (decide := true) only [au_1, nu_2, au_lt, nu_lt, aw_e, nw_e, au_s, au_n, nu_s, nu_n, au_au, nu_nu, au_nu]
      refine w_icmp_ge (pc' := 39) (tgt := 125) dX1_count_36 rfl rfl (fun h_ => ?_) (fun h_ => False.elim (by first | omega | (simp (decide := true) only [au_1, nu_2, au_lt, nu_lt, aw_e, nw_e, au_s, au_n, nu_s, nu_n, au_au, nu_nu, au_nu] at h_; omega)))
      refine w_iload_n (pc' := 126) dX1_count_125 rfl rfl ?_
      -- at 126: .ireturn
      try simp (decide := true) only [au_1, nu_2, au_lt, nu_lt, aw_e, nw_e, au_s, au_n, nu_s, nu_n, au_au, nu_nu, au_nu]
      refine w_ireturn dX1_count_126 rfl ?_
      exact h
    · obtain ⟨b1r, b2, b3, b4, b5, b6⟩ := prow hR hP hp i0 i1
      have hS := sm_r (f := fun i => cnt1 σ p kd i) 60 i0 (fun i' q0 q1 => by
        have hq := (prow hR hP hp q0 (show i' < σ.2 11 p by omega)).2.1
        have := sm_r (f := fun k => b1 (ckd (σ.2 8 (60 * rw_ σ p i' + k)) = kd)) 1 hq.1 (fun _ _ _ => b1_r _)
        unfold cnt1
        omega)
      rw [sm_s i0] at ih
      generalize sm (fun i => cnt1 σ p kd i) i = S at *
      unfold cnt1 at ih
      refine w_iload (pc' := 30) dX1_count_28 rfl rfl ?_
      refine w_aload_n (pc' := 31) dX1_count_30 rfl rfl ?_
      refine w_mga 11 (pc' := 34) dX1_count_31 rfl fX1_40_1 rfl ?_
      refine w_iload_n (pc' := 35) dX1_count_34 rfl rfl ?_
      refine w_mild (pc' := 36) dX1_count_35 rfl rfl (by first | omega | (simp (decide := true) only [au_1, nu_2, au_lt, nu_lt, aw_e, nw_e, au_s, au_n, nu_s, nu_n, au_au, nu_nu, au_nu]; omega)) (by first | omega | (simp (decide := true) only [au_1, nu_2, au_lt, nu_lt, aw_e, nw_e, au_s, au_n, nu_s, nu_n, au_au, nu_nu, au_nu]; omega)) ?_
      -- at 36: .if_icmp .ge 89
      try simp (decide := true) only [au_1, nu_2, au_lt, nu_lt, aw_e, nw_e, au_s, au_n, nu_s, nu_n, au_au, nu_nu, au_nu]
      refine w_icmp_ge (pc' := 39) (tgt := 125) dX1_count_36 rfl rfl (fun h_ => False.elim (by first | omega | (simp (decide := true) only [au_1, nu_2, au_lt, nu_lt, aw_e, nw_e, au_s, au_n, nu_s, nu_n, au_au, nu_nu, au_nu] at h_; omega))) (fun h_ => ?_)
      refine w_aload_n (pc' := 40) dX1_count_39 rfl rfl ?_
      refine w_iload_n (pc' := 41) dX1_count_40 rfl rfl ?_
      refine w_iload (pc' := 43) dX1_count_41 rfl rfl ?_
      -- at 43: .invokevirtual 175
      try simp (decide := true) only [au_1, nu_2, au_lt, nu_lt, aw_e, nw_e, au_s, au_n, nu_s, nu_n, au_au, nu_nu, au_nu]
      refine w_callV2 (pc' := 46) (mc := 0) (ms := 0) dX1_count_43 rfl tX1_rowOf q1302 rfl rfl qs44 q1300 ov_o rfl (Nat.le_of_ble_eq_true rfl) (Nat.le_of_ble_eq_true rfl) ?_
      refine c_X1_rowOf b5 b4 ?_
      refine w_p1 ?_
      refine w_ist5 (pc' := 48) dX1_count_46 rfl rfl ?_
      refine w_iconst (pc' := 49) dX1_count_48 rfl (by decide) ?_
      refine w_ist6 (pc' := 51) dX1_count_49 rfl rfl ?_
      -- at 51: .iload 6
      try simp (decide := true) only [au_1, nu_2, au_lt, nu_lt, aw_e, nw_e, au_s, au_n, nu_s, nu_n, au_au, nu_nu, au_nu]
      refine w_L (L' := [some (xR mR), some (xI p), some (xI kd), some (xI (S + sm (fun k => b1 (ckd (σ.2 8 (60 * rw_ σ p i + k)) = kd)) 0)), some (xI i), some (xI (rw_ σ p i)), some (xI 0), x7]) (by rw [sm_0, Int.add_zero]) ?_
      refine up (T := fun k => ∀ x7, tvW mX1_count (d + 1) K 51 [some (xR mR), some (xI p), some (xI kd), some (xI (S + sm (fun k => b1 (ckd (σ.2 8 (60 * rw_ σ p i + k)) = kd)) k)), some (xI i), some (xI (rw_ σ p i)), some (xI k), x7] [] (ov σ G0) bc bs) (σ.2 6 (rw_ σ p i)) b2.1 (fun x7 => ?_) (fun k k0 k1 ihk x7 => ?_) _
      · refine w_iload (pc' := 53) dX1_count_51 rfl rfl ?_
        refine w_aload_n (pc' := 54) dX1_count_53 rfl rfl ?_
        refine w_mga 6 (pc' := 57) dX1_count_54 rfl fX1_27_1 rfl ?_
        refine w_iload (pc' := 59) dX1_count_57 rfl rfl ?_
        refine w_mild (pc' := 60) dX1_count_59 rfl rfl (by first | omega | (simp (decide := true) only [au_1, nu_2, au_lt, nu_lt, aw_e, nw_e, au_s, au_n, nu_s, nu_n, au_au, nu_nu, au_nu]; omega)) (by first | omega | (simp (decide := true) only [au_1, nu_2, au_lt, nu_lt, aw_e, nw_e, au_s, au_n, nu_s, nu_n, au_au, nu_nu, au_nu]; omega)) ?_
        -- at 60: .if_icmp .ge 59
        try simp (decide := true) only [au_1, nu_2, au_lt, nu_lt, aw_e, nw_e, au_s, au_n, nu_s, nu_n, au_au, nu_nu, au_nu]
        refine w_icmp_ge (pc' := 63) (tgt := 119) dX1_count_60 rfl rfl (fun h_ => ?_) (fun h_ => False.elim (by first | omega | (simp (decide := true) only [au_1, nu_2, au_lt, nu_lt, aw_e, nw_e, au_s, au_n, nu_s, nu_n, au_au, nu_nu, au_nu] at h_; omega)))
        refine w_inc4 (pc' := 122) dX1_count_119 rfl rfl ⟨by first | omega | (simp (decide := true) only [au_1, nu_2, au_lt, nu_lt, aw_e, nw_e, au_s, au_n, nu_s, nu_n, au_au, nu_nu, au_nu]; omega), by first | omega | (simp (decide := true) only [au_1, nu_2, au_lt, nu_lt, aw_e, nw_e, au_s, au_n, nu_s, nu_n, au_au, nu_nu, au_nu]; omega)⟩ ?_
        refine w_goto (tgt := 28) dX1_count_122 rfl ?_
        -- at 28: .iload 4
        try simp (decide := true) only [au_1, nu_2, au_lt, nu_lt, aw_e, nw_e, au_s, au_n, nu_s, nu_n, au_au, nu_nu, au_nu]
        exact ih _ _ _
      · have hk' := sm_r (f := fun k => b1 (ckd (σ.2 8 (60 * rw_ σ p i + k)) = kd)) 1 k0 (fun _ _ _ => b1_r _)
        rw [sm_s k0, ← Int.add_assoc] at ihk
        have hT : 0 ≤ S + sm (fun k => b1 (ckd (σ.2 8 (60 * rw_ σ p i + k)) = kd)) k ∧ S + sm (fun k => b1 (ckd (σ.2 8 (60 * rw_ σ p i + k)) = kd)) k ≤ 10000 := by omega
        generalize S + sm (fun k => b1 (ckd (σ.2 8 (60 * rw_ σ p i + k)) = kd)) k = T at *
        refine w_iload (pc' := 53) dX1_count_51 rfl rfl ?_
        refine w_aload_n (pc' := 54) dX1_count_53 rfl rfl ?_
        refine w_mga 6 (pc' := 57) dX1_count_54 rfl fX1_27_1 rfl ?_
        refine w_iload (pc' := 59) dX1_count_57 rfl rfl ?_
        refine w_mild (pc' := 60) dX1_count_59 rfl rfl (by first | omega | (simp (decide := true) only [au_1, nu_2, au_lt, nu_lt, aw_e, nw_e, au_s, au_n, nu_s, nu_n, au_au, nu_nu, au_nu]; omega)) (by first | omega | (simp (decide := true) only [au_1, nu_2, au_lt, nu_lt, aw_e, nw_e, au_s, au_n, nu_s, nu_n, au_au, nu_nu, au_nu]; omega)) ?_
        -- at 60: .if_icmp .ge 59
        try simp (decide := true) only [au_1, nu_2, au_lt, nu_lt, aw_e, nw_e, au_s, au_n, nu_s, nu_n, au_au, nu_nu, au_nu]
        refine w_icmp_ge (pc' := 63) (tgt := 119) dX1_count_60 rfl rfl (fun h_ => False.elim (by first | omega | (simp (decide := true) only [au_1, nu_2, au_lt, nu_lt, aw_e, nw_e, au_s, au_n, nu_s, nu_n, au_au, nu_nu, au_nu] at h_; omega))) (fun h_ => ?_)
        refine w_aload_n (pc' := 64) dX1_count_63 rfl rfl ?_
        refine w_mga 8 (pc' := 67) dX1_count_64 rfl fX1_34_1 rfl ?_
        refine w_bipush (pc' := 69) dX1_count_67 rfl (by decide +kernel) (by decide) ?_
        refine w_iload (pc' := 71) dX1_count_69 rfl rfl ?_
        refine w_imul (pc' := 72) dX1_count_71 rfl ⟨by first | omega | (simp (decide := true) only [au_1, nu_2, au_lt, nu_lt, aw_e, nw_e, au_s, au_n, nu_s, nu_n, au_au, nu_nu, au_nu]; omega), by first | omega | (simp (decide := true) only [au_1, nu_2, au_lt, nu_lt, aw_e, nw_e, au_s, au_n, nu_s, nu_n, au_au, nu_nu, au_nu]; omega)⟩ ?_
        refine w_iload (pc' := 74) dX1_count_72 rfl rfl ?_
        refine w_iadd (pc' := 75) dX1_count_74 rfl ⟨by first | omega | (simp (decide := true) only [au_1, nu_2, au_lt, nu_lt, aw_e, nw_e, au_s, au_n, nu_s, nu_n, au_au, nu_nu, au_nu]; omega), by first | omega | (simp (decide := true) only [au_1, nu_2, au_lt, nu_lt, aw_e, nw_e, au_s, au_n, nu_s, nu_n, au_au, nu_nu, au_nu]; omega)⟩ ?_
        refine w_mild (pc' := 76) dX1_count_75 rfl rfl (by first | omega | (simp (decide := true) only [au_1, nu_2, au_lt, nu_lt, aw_e, nw_e, au_s, au_n, nu_s, nu_n, au_au, nu_nu, au_nu]; omega)) (by first | omega | (simp (decide := true) only [au_1, nu_2, au_lt, nu_lt, aw_e, nw_e, au_s, au_n, nu_s, nu_n, au_au, nu_nu, au_nu]; omega)) ?_
        refine w_ist7 (pc' := 78) dX1_count_76 rfl rfl ?_
        refine w_iload_n (pc' := 79) dX1_count_78 rfl rfl ?_
        refine w_iload (pc' := 81) dX1_count_79 rfl rfl ?_
        -- at 81: .ifCond .ne 16
        try simp (decide := true) only [au_1, nu_2, au_lt, nu_lt, aw_e, nw_e, au_s, au_n, nu_s, nu_n, au_au, nu_nu, au_nu]
        unfold ckd at ihk
        refine w_if_ne (pc' := 84) (tgt := 97) dX1_count_81 rfl rfl (fun g1 => ?_) (fun g1 => ?_)
        · rw [if_neg g1] at ihk
          refine w_iload (pc' := 99) dX1_count_97 rfl rfl ?_
          -- at 99: .invokestatic 156
          try simp (decide := true) only [au_1, nu_2, au_lt, nu_lt, aw_e, nw_e, au_s, au_n, nu_s, nu_n, au_au, nu_nu, au_nu]
          refine w_callS1 (pc' := 102) (mc := 0) (ms := 0) dX1_count_99 rfl tX1_kindOf q1352 q1351 rfl (Nat.le_of_ble_eq_true rfl) (Nat.le_of_ble_eq_true rfl) ?_
          refine c_X1_kindOf ?_
          refine w_p1 ?_
          refine w_iload_n (pc' := 103) dX1_count_102 rfl rfl ?_
          -- at 103: .if_icmp .ne 7
          try simp (decide := true) only [au_1, nu_2, au_lt, nu_lt, aw_e, nw_e, au_s, au_n, nu_s, nu_n, au_au, nu_nu, au_nu]
          refine w_icmp_ne (pc' := 106) (tgt := 110) dX1_count_103 rfl rfl (fun g2 => ?_) (fun g2 => ?_)
          · rw [b1_f g2] at ihk
            refine w_iconst (pc' := 111) dX1_count_110 rfl (by decide) ?_
            refine w_iadd (pc' := 112) dX1_count_111 rfl ⟨by first | omega | (simp (decide := true) only [au_1, nu_2, au_lt, nu_lt, aw_e, nw_e, au_s, au_n, nu_s, nu_n, au_au, nu_nu, au_nu]; omega), by first | omega | (simp (decide := true) only [au_1, nu_2, au_lt, nu_lt, aw_e, nw_e, au_s, au_n, nu_s, nu_n, au_au, nu_nu, au_nu]; omega)⟩ ?_
            refine w_ist3 (pc' := 113) dX1_count_112 rfl rfl ?_
            refine w_inc6 (pc' := 116) dX1_count_113 rfl rfl ⟨by first | omega | (simp (decide := true) only [au_1, nu_2, au_lt, nu_lt, aw_e, nw_e, au_s, au_n, nu_s, nu_n, au_au, nu_nu, au_nu]; omega), by first | omega | (simp (decide := true) only [au_1, nu_2, au_lt, nu_lt, aw_e, nw_e, au_s, au_n, nu_s, nu_n, au_au, nu_nu, au_nu]; omega)⟩ ?_
            refine w_goto (tgt := 51) dX1_count_116 rfl ?_
            -- at 51: .iload 6
            try simp (decide := true) only [au_1, nu_2, au_lt, nu_lt, aw_e, nw_e, au_s, au_n, nu_s, nu_n, au_au, nu_nu, au_nu]
            exact ihk _
          · rw [b1_t g2] at ihk
            refine w_iconst (pc' := 107) dX1_count_106 rfl (by decide) ?_
            refine w_goto (tgt := 111) dX1_count_107 rfl ?_
            refine w_iadd (pc' := 112) dX1_count_111 rfl ⟨by first | omega | (simp (decide := true) only [au_1, nu_2, au_lt, nu_lt, aw_e, nw_e, au_s, au_n, nu_s, nu_n, au_au, nu_nu, au_nu]; omega), by first | omega | (simp (decide := true) only [au_1, nu_2, au_lt, nu_lt, aw_e, nw_e, au_s, au_n, nu_s, nu_n, au_au, nu_nu, au_nu]; omega)⟩ ?_
            refine w_ist3 (pc' := 113) dX1_count_112 rfl rfl ?_
            refine w_inc6 (pc' := 116) dX1_count_113 rfl rfl ⟨by first | omega | (simp (decide := true) only [au_1, nu_2, au_lt, nu_lt, aw_e, nw_e, au_s, au_n, nu_s, nu_n, au_au, nu_nu, au_nu]; omega), by first | omega | (simp (decide := true) only [au_1, nu_2, au_lt, nu_lt, aw_e, nw_e, au_s, au_n, nu_s, nu_n, au_au, nu_nu, au_nu]; omega)⟩ ?_
            refine w_goto (tgt := 51) dX1_count_116 rfl ?_
            -- at 51: .iload 6
            try simp (decide := true) only [au_1, nu_2, au_lt, nu_lt, aw_e, nw_e, au_s, au_n, nu_s, nu_n, au_au, nu_nu, au_nu]
            exact ihk _
        · rw [if_pos g1] at ihk
          refine w_iload_n (pc' := 85) dX1_count_84 rfl rfl ?_
          refine w_iconst (pc' := 86) dX1_count_85 rfl (by decide) ?_
          -- at 86: .if_icmp .ne 7
          try simp (decide := true) only [au_1, nu_2, au_lt, nu_lt, aw_e, nw_e, au_s, au_n, nu_s, nu_n, au_au, nu_nu, au_nu]
          refine w_icmp_ne (pc' := 89) (tgt := 93) dX1_count_86 rfl rfl (fun g2 => ?_) (fun g2 => ?_)
          · rw [b1_f (by omega)] at ihk
            refine w_iconst (pc' := 94) dX1_count_93 rfl (by decide) ?_
            refine w_goto (tgt := 111) dX1_count_94 rfl ?_
            refine w_iadd (pc' := 112) dX1_count_111 rfl ⟨by first | omega | (simp (decide := true) only [au_1, nu_2, au_lt, nu_lt, aw_e, nw_e, au_s, au_n, nu_s, nu_n, au_au, nu_nu, au_nu]; omega), by first | omega | (simp (decide := true) only [au_1, nu_2, au_lt, nu_lt, aw_e, nw_e, au_s, au_n, nu_s, nu_n, au_au, nu_nu, au_nu]; omega)⟩ ?_
            refine w_ist3 (pc' := 113) dX1_count_112 rfl rfl ?_
            refine w_inc6 (pc' := 116) dX1_count_113 rfl rfl ⟨by first | omega | (simp (decide := true) only [au_1, nu_2, au_lt, nu_lt, aw_e, nw_e, au_s, au_n, nu_s, nu_n, au_au, nu_nu, au_nu]; omega), by first | omega | (simp (decide := true) only [au_1, nu_2, au_lt, nu_lt, aw_e, nw_e, au_s, au_n, nu_s, nu_n, au_au, nu_nu, au_nu]; omega)⟩ ?_
            refine w_goto (tgt := 51) dX1_count_116 rfl ?_
            -- at 51: .iload 6
            try simp (decide := true) only [au_1, nu_2, au_lt, nu_lt, aw_e, nw_e, au_s, au_n, nu_s, nu_n, au_au, nu_nu, au_nu]
            exact ihk _
          · rw [b1_t (by omega)] at ihk
            refine w_iconst (pc' := 90) dX1_count_89 rfl (by decide) ?_
            refine w_goto (tgt := 111) dX1_count_90 rfl ?_
            refine w_iadd (pc' := 112) dX1_count_111 rfl ⟨by first | omega | (simp (decide := true) only [au_1, nu_2, au_lt, nu_lt, aw_e, nw_e, au_s, au_n, nu_s, nu_n, au_au, nu_nu, au_nu]; omega), by first | omega | (simp (decide := true) only [au_1, nu_2, au_lt, nu_lt, aw_e, nw_e, au_s, au_n, nu_s, nu_n, au_au, nu_nu, au_nu]; omega)⟩ ?_
            refine w_ist3 (pc' := 113) dX1_count_112 rfl rfl ?_
            refine w_inc6 (pc' := 116) dX1_count_113 rfl rfl ⟨by first | omega | (simp (decide := true) only [au_1, nu_2, au_lt, nu_lt, aw_e, nw_e, au_s, au_n, nu_s, nu_n, au_au, nu_nu, au_nu]; omega), by first | omega | (simp (decide := true) only [au_1, nu_2, au_lt, nu_lt, aw_e, nw_e, au_s, au_n, nu_s, nu_n, au_au, nu_nu, au_nu]; omega)⟩ ?_
            refine w_goto (tgt := 51) dX1_count_116 rfl ?_
            -- at 51: .iload 6
            try simp (decide := true) only [au_1, nu_2, au_lt, nu_lt, aw_e, nw_e, au_s, au_n, nu_s, nu_n, au_au, nu_nu, au_nu]
            exact ihk _
  refine w_aload_n (pc' := 1) dX1_count_0 rfl rfl ?_
  refine w_iload_n (pc' := 2) dX1_count_1 rfl rfl ?_
  refine w_callV1 (pc' := 5) (mc := 0) (ms := 0) dX1_count_2 rfl tX1_isPattern q1294 rfl rfl qs42 q1292 ov_o rfl (Nat.le_of_ble_eq_true rfl) (Nat.le_of_ble_eq_true rfl) ?_
  refine c_X1_isPattern  (fun g2a g2b => w_p1 ?_) (fun g2 => w_p1 ?_)
  rotate_left
  · refine w_if_eq (pc' := 8) (tgt := 21) dX1_count_5 rfl rfl (fun h_ => ?_) (fun h_ => False.elim (by omega))
    exact bad (by omega)
  refine w_if_eq (pc' := 8) (tgt := 21) dX1_count_5 rfl rfl (fun h_ => False.elim (by omega)) (fun h_ => ?_)
  -- at 8: .iload_n 2
  refine w_iload_n (pc' := 9) dX1_count_8 rfl rfl ?_
  refine w_iconst (pc' := 10) dX1_count_9 rfl (by decide) ?_
  -- at 10: .if_icmp .eq 13
  try simp (decide := true) only [au_1, nu_2, au_lt, nu_lt, aw_e, nw_e, au_s, au_n, nu_s, nu_n, au_au, nu_nu, au_nu]
  refine w_icmp_eq (pc' := 13) (tgt := 23) dX1_count_10 rfl rfl (fun g => ?_) (fun g => ?_)
  · exact main ⟨g2a, g2b⟩ (Or.inl g)
  · refine w_aload_n (pc' := 14) dX1_count_13 rfl rfl ?_
    refine w_iload_n (pc' := 15) dX1_count_14 rfl rfl ?_
    refine w_callV1 (pc' := 18) (mc := 0) (ms := 0) dX1_count_15 rfl tX1_isKind q1270 rfl rfl qs39 q1268 ov_o rfl (Nat.le_of_ble_eq_true rfl) (Nat.le_of_ble_eq_true rfl) ?_
    refine c_X1_isKind  (fun g15a g15b => w_p1 ?_) (fun g15 => w_p1 ?_)
    rotate_left
    · refine w_if_ne (pc' := 21) (tgt := 23) dX1_count_18 rfl rfl (fun h_ => False.elim (by omega)) (fun h_ => ?_)
      exact bad (by omega)
    refine w_if_ne (pc' := 21) (tgt := 23) dX1_count_18 rfl rfl (fun h_ => ?_) (fun h_ => False.elim (by omega))
    -- at 23: .iconst 0
    exact main ⟨g2a, g2b⟩ (Or.inr ⟨g15a, g15b⟩)
theorem c_X1_fits {p : Int} (hK : kok σ) (hR : rok σ) (hP : pok σ) (h : K (some (xI (aFits σ p))) (ov σ G0)) : tvW mX1_fits (d + 3) K 0 [some (xR mR), some (xI p), none, none, none, none, none, none, none, none] [] (ov σ G0) bc bs := by
  unfold aFits at h
  have bad : ¬ (0 ≤ p ∧ p < σ.1 12) → tvW mX1_fits (d + 3) K 8 [some (xR mR), some (xI p), none, none, none, none, none, none, none, none] [] (ov σ G0) bc bs := by
    intro q
    rw [ic_f q] at h
    refine w_iconst (pc' := 9) dX1_fits_8 rfl (by decide) ?_
    -- at 9: .ireturn
    try simp (decide := true) only [au_1, nu_2, au_lt, nu_lt, aw_e, nw_e, au_s, au_n, nu_s, nu_n, au_au, nu_nu, au_nu]
    refine w_ireturn dX1_fits_9 rfl ?_
    exact h
  refine w_aload_n (pc' := 1) dX1_fits_0 rfl rfl ?_
  refine w_iload_n (pc' := 2) dX1_fits_1 rfl rfl ?_
  refine w_callV1 (pc' := 5) (mc := 0) (ms := 0) dX1_fits_2 rfl tX1_isPattern q1294 rfl rfl qs42 q1292 ov_o rfl (Nat.le_of_ble_eq_true rfl) (Nat.le_of_ble_eq_true rfl) ?_
  refine c_X1_isPattern  (fun g2a g2b => w_p1 ?_) (fun g2 => w_p1 ?_)
  rotate_left
  · refine w_if_ne (pc' := 8) (tgt := 10) dX1_fits_5 rfl rfl (fun h_ => False.elim (by omega)) (fun h_ => ?_)
    exact bad (by omega)
  refine w_if_ne (pc' := 8) (tgt := 10) dX1_fits_5 rfl rfl (fun h_ => ?_) (fun h_ => False.elim (by omega))
  -- at 10: .iconst 0
  have hp : 0 ≤ p ∧ p < σ.1 12 := ⟨g2a, g2b⟩
  rw [ic_t hp] at h
  have hM := (hP.2 p hp.1 hp.2).1
  have hp1 := hP.1
  refine w_iconst (pc' := 11) dX1_fits_10 rfl (by decide) ?_
  refine w_ist2 (pc' := 12) dX1_fits_11 rfl rfl ?_
  refine w_iconst (pc' := 13) dX1_fits_12 rfl (by decide) ?_
  refine w_ist3 (pc' := 14) dX1_fits_13 rfl rfl ?_
  -- at 14: .iload_n 3
  try simp (decide := true) only [au_1, nu_2, au_lt, nu_lt, aw_e, nw_e, au_s, au_n, nu_s, nu_n, au_au, nu_nu, au_nu]
  refine up (T := fun i => ∀ x4 x5 x6 x7 x8 x9 : Option XV, (∀ i', 0 ≤ i' → i' < i → ∀ k, 0 ≤ k → k < (σ.2 6 (rw_ σ p i')) → ¬ ¬ (frt σ p i' k ∧ fbl σ p i' k)) → tvW mX1_fits (d + 3) K 14 [some (xR mR), some (xI p), some (xI (sm (fun i => (σ.2 6 (rw_ σ p i))) i)), some (xI i), x4, x5, x6, x7, x8, x9] [] (ov σ G0) bc bs) (σ.2 11 p) hM.1 (fun x4 x5 x6 x7 x8 x9 hn => ?_) (fun i i0 i1 ih x4 x5 x6 x7 x8 x9 hn => ?_) _ _ _ _ _ _ (fun i' a b => by omega)
  · rw [fi2_no hn] at h
    refine w_iload_n (pc' := 15) dX1_fits_14 rfl rfl ?_
    refine w_aload_n (pc' := 16) dX1_fits_15 rfl rfl ?_
    refine w_mga 11 (pc' := 19) dX1_fits_16 rfl fX1_40_1 rfl ?_
    refine w_iload_n (pc' := 20) dX1_fits_19 rfl rfl ?_
    refine w_mild (pc' := 21) dX1_fits_20 rfl rfl (by first | omega | (simp (decide := true) only [au_1, nu_2, au_lt, nu_lt, aw_e, nw_e, au_s, au_n, nu_s, nu_n, au_au, nu_nu, au_nu]; omega)) (by first | omega | (simp (decide := true) only [au_1, nu_2, au_lt, nu_lt, aw_e, nw_e, au_s, au_n, nu_s, nu_n, au_au, nu_nu, au_nu]; omega)) ?_
    -- at 21: .if_icmp .ge 179
    try simp (decide := true) only [au_1, nu_2, au_lt, nu_lt, aw_e, nw_e, au_s, au_n, nu_s, nu_n, au_au, nu_nu, au_nu]
    refine w_icmp_ge (pc' := 24) (tgt := 200) dX1_fits_21 rfl rfl (fun h_ => ?_) (fun h_ => False.elim (by first | omega | (simp (decide := true) only [au_1, nu_2, au_lt, nu_lt, aw_e, nw_e, au_s, au_n, nu_s, nu_n, au_au, nu_nu, au_nu] at h_; omega)))
    refine w_iconst (pc' := 201) dX1_fits_200 rfl (by decide) ?_
    -- at 201: .ireturn
    try simp (decide := true) only [au_1, nu_2, au_lt, nu_lt, aw_e, nw_e, au_s, au_n, nu_s, nu_n, au_au, nu_nu, au_nu]
    refine w_ireturn dX1_fits_201 rfl ?_
    exact h
  · obtain ⟨b1r, b2, b3, b4, b5, b6⟩ := prow hR hP hp i0 i1
    have hS := sm_r (f := fun i => (σ.2 6 (rw_ σ p i))) 60 i0 (fun i' q0 q1 => (prow hR hP hp q0 (show i' < σ.2 11 p by omega)).2.1)
    rw [sm_s i0] at ih
    refine w_iload_n (pc' := 15) dX1_fits_14 rfl rfl ?_
    refine w_aload_n (pc' := 16) dX1_fits_15 rfl rfl ?_
    refine w_mga 11 (pc' := 19) dX1_fits_16 rfl fX1_40_1 rfl ?_
    refine w_iload_n (pc' := 20) dX1_fits_19 rfl rfl ?_
    refine w_mild (pc' := 21) dX1_fits_20 rfl rfl (by first | omega | (simp (decide := true) only [au_1, nu_2, au_lt, nu_lt, aw_e, nw_e, au_s, au_n, nu_s, nu_n, au_au, nu_nu, au_nu]; omega)) (by first | omega | (simp (decide := true) only [au_1, nu_2, au_lt, nu_lt, aw_e, nw_e, au_s, au_n, nu_s, nu_n, au_au, nu_nu, au_nu]; omega)) ?_
    -- at 21: .if_icmp .ge 179
    try simp (decide := true) only [au_1, nu_2, au_lt, nu_lt, aw_e, nw_e, au_s, au_n, nu_s, nu_n, au_au, nu_nu, au_nu]
    refine w_icmp_ge (pc' := 24) (tgt := 200) dX1_fits_21 rfl rfl (fun h_ => False.elim (by first | omega | (simp (decide := true) only [au_1, nu_2, au_lt, nu_lt, aw_e, nw_e, au_s, au_n, nu_s, nu_n, au_au, nu_nu, au_nu] at h_; omega))) (fun h_ => ?_)
    refine w_aload_n (pc' := 25) dX1_fits_24 rfl rfl ?_
    refine w_iload_n (pc' := 26) dX1_fits_25 rfl rfl ?_
    refine w_iload_n (pc' := 27) dX1_fits_26 rfl rfl ?_
    -- at 27: .invokevirtual 175
    try simp (decide := true) only [au_1, nu_2, au_lt, nu_lt, aw_e, nw_e, au_s, au_n, nu_s, nu_n, au_au, nu_nu, au_nu]
    refine w_callV2 (pc' := 30) (mc := 0) (ms := 0) dX1_fits_27 rfl tX1_rowOf q1302 rfl rfl qs44 q1300 ov_o rfl (Nat.le_of_ble_eq_true rfl) (Nat.le_of_ble_eq_true rfl) ?_
    refine c_X1_rowOf b5 b4 ?_
    refine w_p1 ?_
    refine w_ist4 (pc' := 32) dX1_fits_30 rfl rfl ?_
    refine w_iconst (pc' := 33) dX1_fits_32 rfl (by decide) ?_
    refine w_ist5 (pc' := 35) dX1_fits_33 rfl rfl ?_
    -- at 35: .iload 5
    try simp (decide := true) only [au_1, nu_2, au_lt, nu_lt, aw_e, nw_e, au_s, au_n, nu_s, nu_n, au_au, nu_nu, au_nu]
    refine w_L (L' := [some (xR mR), some (xI p), some (xI (sm (fun i => (σ.2 6 (rw_ σ p i))) i + 0)), some (xI i), some (xI (rw_ σ p i)), some (xI 0), x6, x7, x8, x9]) (by rw [Int.add_zero]) ?_
    refine up (T := fun k => ∀ x6 x7 x8 x9 : Option XV, (∀ k', 0 ≤ k' → k' < k → ¬ ¬ (frt σ p i k' ∧ fbl σ p i k')) → tvW mX1_fits (d + 3) K 35 [some (xR mR), some (xI p), some (xI (sm (fun i => (σ.2 6 (rw_ σ p i))) i + k)), some (xI i), some (xI (rw_ σ p i)), some (xI k), x6, x7, x8, x9] [] (ov σ G0) bc bs) (σ.2 6 (rw_ σ p i)) b2.1 (fun x6 x7 x8 x9 hk => ?_) (fun k k0 k1 ihk x6 x7 x8 x9 hk => ?_) _ _ _ _ (fun k' a b => by omega)
    · refine w_iload (pc' := 37) dX1_fits_35 rfl rfl ?_
      refine w_aload_n (pc' := 38) dX1_fits_37 rfl rfl ?_
      refine w_mga 6 (pc' := 41) dX1_fits_38 rfl fX1_27_1 rfl ?_
      refine w_iload (pc' := 43) dX1_fits_41 rfl rfl ?_
      refine w_mild (pc' := 44) dX1_fits_43 rfl rfl (by first | omega | (simp (decide := true) only [au_1, nu_2, au_lt, nu_lt, aw_e, nw_e, au_s, au_n, nu_s, nu_n, au_au, nu_nu, au_nu]; omega)) (by first | omega | (simp (decide := true) only [au_1, nu_2, au_lt, nu_lt, aw_e, nw_e, au_s, au_n, nu_s, nu_n, au_au, nu_nu, au_nu]; omega)) ?_
      -- at 44: .if_icmp .ge 150
      try simp (decide := true) only [au_1, nu_2, au_lt, nu_lt, aw_e, nw_e, au_s, au_n, nu_s, nu_n, au_au, nu_nu, au_nu]
      refine w_icmp_ge (pc' := 47) (tgt := 194) dX1_fits_44 rfl rfl (fun h_ => ?_) (fun h_ => False.elim (by first | omega | (simp (decide := true) only [au_1, nu_2, au_lt, nu_lt, aw_e, nw_e, au_s, au_n, nu_s, nu_n, au_au, nu_nu, au_nu] at h_; omega)))
      refine w_inc3 (pc' := 197) dX1_fits_194 rfl rfl ⟨by first | omega | (simp (decide := true) only [au_1, nu_2, au_lt, nu_lt, aw_e, nw_e, au_s, au_n, nu_s, nu_n, au_au, nu_nu, au_nu]; omega), by first | omega | (simp (decide := true) only [au_1, nu_2, au_lt, nu_lt, aw_e, nw_e, au_s, au_n, nu_s, nu_n, au_au, nu_nu, au_nu]; omega)⟩ ?_
      refine w_goto (tgt := 14) dX1_fits_197 rfl ?_
      -- at 14: .iload_n 3
      try simp (decide := true) only [au_1, nu_2, au_lt, nu_lt, aw_e, nw_e, au_s, au_n, nu_s, nu_n, au_au, nu_nu, au_nu]
      refine ih _ _ _ _ _ _ (fun i' q0 q1 => ?_)
      by_cases e : i' = i
      · rw [e]; exact hk
      · exact hn i' q0 (by omega)
    · have hc := b6 k k0 k1
      have fin : ∀ (x y : Int), (x = 1 ∧ frt σ p i k ∨ x = 0 ∧ ¬ frt σ p i k) → (y = 1 ∧ fbl σ p i k ∨ y = 0 ∧ ¬ fbl σ p i k) → ∀ x6 x7, tvW mX1_fits (d + 3) K 158 [some (xR mR), some (xI p), some (xI (sm (fun i => (σ.2 6 (rw_ σ p i))) i + k)), some (xI i), some (xI (rw_ σ p i)), some (xI k), x6, x7, some (xI x), some (xI y)] [] (ov σ G0) bc bs := by
        intro x y hx hy x6 x7
        have tx := tb hx
        have ty := tb hy
        have vx : x = 0 ∨ x = 1 := by omega
        have vy : y = 0 ∨ y = 1 := by omega
        have res : ¬ (frt σ p i k ∧ fbl σ p i k) → tvW mX1_fits (d + 3) K 168 [some (xR mR), some (xI p), some (xI (sm (fun i => (σ.2 6 (rw_ σ p i))) i + k)), some (xI i), some (xI (rw_ σ p i)), some (xI k), x6, x7, some (xI x), some (xI y)] [] (ov σ G0) bc bs := by
          intro q
          rw [fi2_hit (P := fun i k => ¬ (frt σ p i k ∧ fbl σ p i k)) i0 i1 k0 k1 q hk hn] at h
          refine w_iconst (pc' := 169) dX1_fits_168 rfl (by decide) ?_
          refine w_iconst (pc' := 170) dX1_fits_169 rfl (by decide) ?_
          refine w_iload_n (pc' := 171) dX1_fits_170 rfl rfl ?_
          refine w_imul (pc' := 172) dX1_fits_171 rfl ⟨by first | omega | (simp (decide := true) only [au_1, nu_2, au_lt, nu_lt, aw_e, nw_e, au_s, au_n, nu_s, nu_n, au_au, nu_nu, au_nu]; omega), by first | omega | (simp (decide := true) only [au_1, nu_2, au_lt, nu_lt, aw_e, nw_e, au_s, au_n, nu_s, nu_n, au_au, nu_nu, au_nu]; omega)⟩ ?_
          refine w_iadd (pc' := 173) dX1_fits_172 rfl ⟨by first | omega | (simp (decide := true) only [au_1, nu_2, au_lt, nu_lt, aw_e, nw_e, au_s, au_n, nu_s, nu_n, au_au, nu_nu, au_nu]; omega), by first | omega | (simp (decide := true) only [au_1, nu_2, au_lt, nu_lt, aw_e, nw_e, au_s, au_n, nu_s, nu_n, au_au, nu_nu, au_nu]; omega)⟩ ?_
          refine w_iload (pc' := 175) dX1_fits_173 rfl rfl ?_
          -- at 175: .ifCond .eq 7
          try simp (decide := true) only [au_1, nu_2, au_lt, nu_lt, aw_e, nw_e, au_s, au_n, nu_s, nu_n, au_au, nu_nu, au_nu]
          refine w_if_eq (pc' := 178) (tgt := 182) dX1_fits_175 rfl rfl (fun g => ?_) (fun g => ?_)
          · rw [b1_f (tx.1 g)] at h
            refine w_iconst (pc' := 183) dX1_fits_182 rfl (by decide) ?_
            refine w_iadd (pc' := 184) dX1_fits_183 rfl ⟨by first | omega | (simp (decide := true) only [au_1, nu_2, au_lt, nu_lt, aw_e, nw_e, au_s, au_n, nu_s, nu_n, au_au, nu_nu, au_nu]; omega), by first | omega | (simp (decide := true) only [au_1, nu_2, au_lt, nu_lt, aw_e, nw_e, au_s, au_n, nu_s, nu_n, au_au, nu_nu, au_nu]; omega)⟩ ?_
            -- at 184: .ireturn
            try simp (decide := true) only [au_1, nu_2, au_lt, nu_lt, aw_e, nw_e, au_s, au_n, nu_s, nu_n, au_au, nu_nu, au_nu]
            refine w_ireturn dX1_fits_184 rfl ?_
            exact h
          · rw [b1_t (tx.2 g)] at h
            refine w_iconst (pc' := 179) dX1_fits_178 rfl (by decide) ?_
            refine w_goto (tgt := 183) dX1_fits_179 rfl ?_
            refine w_iadd (pc' := 184) dX1_fits_183 rfl ⟨by first | omega | (simp (decide := true) only [au_1, nu_2, au_lt, nu_lt, aw_e, nw_e, au_s, au_n, nu_s, nu_n, au_au, nu_nu, au_nu]; omega), by first | omega | (simp (decide := true) only [au_1, nu_2, au_lt, nu_lt, aw_e, nw_e, au_s, au_n, nu_s, nu_n, au_au, nu_nu, au_nu]; omega)⟩ ?_
            -- at 184: .ireturn
            try simp (decide := true) only [au_1, nu_2, au_lt, nu_lt, aw_e, nw_e, au_s, au_n, nu_s, nu_n, au_au, nu_nu, au_nu]
            refine w_ireturn dX1_fits_184 rfl ?_
            exact h
        refine w_iload (pc' := 160) dX1_fits_158 rfl rfl ?_
        -- at 160: .ifCond .eq 8
        try simp (decide := true) only [au_1, nu_2, au_lt, nu_lt, aw_e, nw_e, au_s, au_n, nu_s, nu_n, au_au, nu_nu, au_nu]
        refine w_if_eq (pc' := 163) (tgt := 168) dX1_fits_160 rfl rfl (fun g => ?_) (fun g => ?_)
        · exact res (fun q => tx.1 g q.1)
        · refine w_iload (pc' := 165) dX1_fits_163 rfl rfl ?_
          -- at 165: .ifCond .ne 20
          try simp (decide := true) only [au_1, nu_2, au_lt, nu_lt, aw_e, nw_e, au_s, au_n, nu_s, nu_n, au_au, nu_nu, au_nu]
          refine w_if_ne (pc' := 168) (tgt := 185) dX1_fits_165 rfl rfl (fun g2 => ?_) (fun g2 => ?_)
          · refine w_inc2 (pc' := 188) dX1_fits_185 rfl rfl ⟨by first | omega | (simp (decide := true) only [au_1, nu_2, au_lt, nu_lt, aw_e, nw_e, au_s, au_n, nu_s, nu_n, au_au, nu_nu, au_nu]; omega), by first | omega | (simp (decide := true) only [au_1, nu_2, au_lt, nu_lt, aw_e, nw_e, au_s, au_n, nu_s, nu_n, au_au, nu_nu, au_nu]; omega)⟩ ?_
            refine w_inc5 (pc' := 191) dX1_fits_188 rfl rfl ⟨by first | omega | (simp (decide := true) only [au_1, nu_2, au_lt, nu_lt, aw_e, nw_e, au_s, au_n, nu_s, nu_n, au_au, nu_nu, au_nu]; omega), by first | omega | (simp (decide := true) only [au_1, nu_2, au_lt, nu_lt, aw_e, nw_e, au_s, au_n, nu_s, nu_n, au_au, nu_nu, au_nu]; omega)⟩ ?_
            refine w_goto (tgt := 35) dX1_fits_191 rfl ?_
            -- at 35: .iload 5
            try simp (decide := true) only [au_1, nu_2, au_lt, nu_lt, aw_e, nw_e, au_s, au_n, nu_s, nu_n, au_au, nu_nu, au_nu]
            rw [Int.add_assoc]
            refine ihk _ _ _ _ (fun k' q0 q1 => ?_)
            by_cases e : k' = k
            · rw [e]; exact fun q => q ⟨tx.2 g, ty.2 g2⟩
            · exact hk k' q0 (by omega)
          · exact res (fun q => ty.1 g2 q.2)
      have below : ∀ x : Int, (x = 1 ∧ frt σ p i k ∨ x = 0 ∧ ¬ frt σ p i k) → ∀ x9, tvW mX1_fits (d + 3) K 114 [some (xR mR), some (xI p), some (xI (sm (fun i => (σ.2 6 (rw_ σ p i))) i + k)), some (xI i), some (xI (rw_ σ p i)), some (xI k), some (xI ((σ.2 7 (rw_ σ p i)) + k)), some (xI (σ.2 8 (60 * rw_ σ p i + k))), x8, x9] [xI x] (ov σ G0) bc bs := by
        intro x hx x9
        refine w_ist8 (pc' := 116) dX1_fits_114 rfl rfl ?_
        refine w_aload_n (pc' := 117) dX1_fits_116 rfl rfl ?_
        refine w_iload_n (pc' := 118) dX1_fits_117 rfl rfl ?_
        refine w_iload_n (pc' := 119) dX1_fits_118 rfl rfl ?_
        refine w_iconst (pc' := 120) dX1_fits_119 rfl (by decide) ?_
        refine w_iadd (pc' := 121) dX1_fits_120 rfl ⟨by first | omega | (simp (decide := true) only [au_1, nu_2, au_lt, nu_lt, aw_e, nw_e, au_s, au_n, nu_s, nu_n, au_au, nu_nu, au_nu]; omega), by first | omega | (simp (decide := true) only [au_1, nu_2, au_lt, nu_lt, aw_e, nw_e, au_s, au_n, nu_s, nu_n, au_au, nu_nu, au_nu]; omega)⟩ ?_
        refine w_i2l (pc' := 122) dX1_fits_121 rfl ?_
        refine w_iload (pc' := 124) dX1_fits_122 rfl rfl ?_
        refine w_i2l (pc' := 125) dX1_fits_124 rfl ?_
        -- at 125: .invokevirtual 204
        try simp (decide := true) only [au_1, nu_2, au_lt, nu_lt, aw_e, nw_e, au_s, au_n, nu_s, nu_n, au_au, nu_nu, au_nu]
        refine w_callV3 (pc' := 128) (mc := 0) (ms := 0) dX1_fits_125 rfl tX1_has q1326 rfl rfl qs47 q1324 ov_o rfl (Nat.le_of_ble_eq_true rfl) (Nat.le_of_ble_eq_true rfl) ?_
        refine c_X1_has hR hP hp ⟨by omega, by omega⟩ (fun q => w_p1 ?_) (fun q => w_p1 ?_)
        · refine w_if_eq (pc' := 131) (tgt := 151) dX1_fits_128 rfl rfl (fun h_ => False.elim (by first | omega | (simp (decide := true) only [au_1, nu_2, au_lt, nu_lt, aw_e, nw_e, au_s, au_n, nu_s, nu_n, au_au, nu_nu, au_nu] at h_; omega))) (fun h_ => ?_)
          refine w_aload_n (pc' := 132) dX1_fits_131 rfl rfl ?_
          refine w_iload (pc' := 134) dX1_fits_132 rfl rfl ?_
          refine w_aload_n (pc' := 135) dX1_fits_134 rfl rfl ?_
          refine w_iload_n (pc' := 136) dX1_fits_135 rfl rfl ?_
          refine w_iload_n (pc' := 137) dX1_fits_136 rfl rfl ?_
          refine w_iconst (pc' := 138) dX1_fits_137 rfl (by decide) ?_
          refine w_iadd (pc' := 139) dX1_fits_138 rfl ⟨by first | omega | (simp (decide := true) only [au_1, nu_2, au_lt, nu_lt, aw_e, nw_e, au_s, au_n, nu_s, nu_n, au_au, nu_nu, au_nu]; omega), by first | omega | (simp (decide := true) only [au_1, nu_2, au_lt, nu_lt, aw_e, nw_e, au_s, au_n, nu_s, nu_n, au_au, nu_nu, au_nu]; omega)⟩ ?_
          refine w_iload (pc' := 141) dX1_fits_139 rfl rfl ?_
          -- at 141: .invokevirtual 212
          try simp (decide := true) only [au_1, nu_2, au_lt, nu_lt, aw_e, nw_e, au_s, au_n, nu_s, nu_n, au_au, nu_nu, au_nu]
          refine w_callV3 (pc' := 144) (mc := 0) (ms := 0) dX1_fits_141 rfl tX1_cellAt q1349 rfl rfl qs51 q1347 ov_o rfl (Nat.le_of_ble_eq_true rfl) (Nat.le_of_ble_eq_true rfl) ?_
          refine c_X1_cellAt hR hP hp q ?_
          refine w_p1 ?_
          refine w_iconst (pc' := 145) dX1_fits_144 rfl (by decide) ?_
          -- at 145: .invokevirtual 263
          try simp (decide := true) only [au_1, nu_2, au_lt, nu_lt, aw_e, nw_e, au_s, au_n, nu_s, nu_n, au_au, nu_nu, au_nu]
          refine w_callV3 (pc' := 148) (mc := 0) (ms := 0) dX1_fits_145 rfl tX1_fit q1445 rfl rfl qs58 q1443 ov_o rfl (Nat.le_of_ble_eq_true rfl) (Nat.le_of_ble_eq_true rfl) ?_
          refine c_X1_fit hK hc (ca_ok hR hP hp q) ⟨by omega, by omega⟩ (fun r => w_p1 ?_) (fun r => w_p1 ?_)
          · refine w_if_eq (pc' := 151) (tgt := 155) dX1_fits_148 rfl rfl (fun h_ => False.elim (by first | omega | (simp (decide := true) only [au_1, nu_2, au_lt, nu_lt, aw_e, nw_e, au_s, au_n, nu_s, nu_n, au_au, nu_nu, au_nu] at h_; omega))) (fun h_ => ?_)
            refine w_iconst (pc' := 152) dX1_fits_151 rfl (by decide) ?_
            refine w_goto (tgt := 156) dX1_fits_152 rfl ?_
            refine w_ist9 (pc' := 158) dX1_fits_156 rfl rfl ?_
            -- at 158: .iload 8
            try simp (decide := true) only [au_1, nu_2, au_lt, nu_lt, aw_e, nw_e, au_s, au_n, nu_s, nu_n, au_au, nu_nu, au_nu]
            exact fin _ _ hx (Or.inl ⟨rfl, Or.inr r⟩) _ _
          · refine w_if_eq (pc' := 151) (tgt := 155) dX1_fits_148 rfl rfl (fun h_ => ?_) (fun h_ => False.elim (by first | omega | (simp (decide := true) only [au_1, nu_2, au_lt, nu_lt, aw_e, nw_e, au_s, au_n, nu_s, nu_n, au_au, nu_nu, au_nu] at h_; omega)))
            refine w_iconst (pc' := 156) dX1_fits_155 rfl (by decide) ?_
            refine w_ist9 (pc' := 158) dX1_fits_156 rfl rfl ?_
            -- at 158: .iload 8
            try simp (decide := true) only [au_1, nu_2, au_lt, nu_lt, aw_e, nw_e, au_s, au_n, nu_s, nu_n, au_au, nu_nu, au_nu]
            exact fin _ _ hx (Or.inr ⟨rfl, fun z => z.elim (fun z => z q) r⟩) _ _
        · refine w_if_eq (pc' := 131) (tgt := 151) dX1_fits_128 rfl rfl (fun h_ => ?_) (fun h_ => False.elim (by first | omega | (simp (decide := true) only [au_1, nu_2, au_lt, nu_lt, aw_e, nw_e, au_s, au_n, nu_s, nu_n, au_au, nu_nu, au_nu] at h_; omega)))
          refine w_iconst (pc' := 152) dX1_fits_151 rfl (by decide) ?_
          refine w_goto (tgt := 156) dX1_fits_152 rfl ?_
          refine w_ist9 (pc' := 158) dX1_fits_156 rfl rfl ?_
          -- at 158: .iload 8
          try simp (decide := true) only [au_1, nu_2, au_lt, nu_lt, aw_e, nw_e, au_s, au_n, nu_s, nu_n, au_au, nu_nu, au_nu]
          exact fin _ _ hx (Or.inl ⟨rfl, Or.inl q⟩) _ _
      refine w_iload (pc' := 37) dX1_fits_35 rfl rfl ?_
      refine w_aload_n (pc' := 38) dX1_fits_37 rfl rfl ?_
      refine w_mga 6 (pc' := 41) dX1_fits_38 rfl fX1_27_1 rfl ?_
      refine w_iload (pc' := 43) dX1_fits_41 rfl rfl ?_
      refine w_mild (pc' := 44) dX1_fits_43 rfl rfl (by first | omega | (simp (decide := true) only [au_1, nu_2, au_lt, nu_lt, aw_e, nw_e, au_s, au_n, nu_s, nu_n, au_au, nu_nu, au_nu]; omega)) (by first | omega | (simp (decide := true) only [au_1, nu_2, au_lt, nu_lt, aw_e, nw_e, au_s, au_n, nu_s, nu_n, au_au, nu_nu, au_nu]; omega)) ?_
      -- at 44: .if_icmp .ge 150
      try simp (decide := true) only [au_1, nu_2, au_lt, nu_lt, aw_e, nw_e, au_s, au_n, nu_s, nu_n, au_au, nu_nu, au_nu]
      refine w_icmp_ge (pc' := 47) (tgt := 194) dX1_fits_44 rfl rfl (fun h_ => False.elim (by first | omega | (simp (decide := true) only [au_1, nu_2, au_lt, nu_lt, aw_e, nw_e, au_s, au_n, nu_s, nu_n, au_au, nu_nu, au_nu] at h_; omega))) (fun h_ => ?_)
      refine w_aload_n (pc' := 48) dX1_fits_47 rfl rfl ?_
      refine w_mga 7 (pc' := 51) dX1_fits_48 rfl fX1_30_1 rfl ?_
      refine w_iload (pc' := 53) dX1_fits_51 rfl rfl ?_
      refine w_mild (pc' := 54) dX1_fits_53 rfl rfl (by first | omega | (simp (decide := true) only [au_1, nu_2, au_lt, nu_lt, aw_e, nw_e, au_s, au_n, nu_s, nu_n, au_au, nu_nu, au_nu]; omega)) (by first | omega | (simp (decide := true) only [au_1, nu_2, au_lt, nu_lt, aw_e, nw_e, au_s, au_n, nu_s, nu_n, au_au, nu_nu, au_nu]; omega)) ?_
      refine w_iload (pc' := 56) dX1_fits_54 rfl rfl ?_
      refine w_iadd (pc' := 57) dX1_fits_56 rfl ⟨by first | omega | (simp (decide := true) only [au_1, nu_2, au_lt, nu_lt, aw_e, nw_e, au_s, au_n, nu_s, nu_n, au_au, nu_nu, au_nu]; omega), by first | omega | (simp (decide := true) only [au_1, nu_2, au_lt, nu_lt, aw_e, nw_e, au_s, au_n, nu_s, nu_n, au_au, nu_nu, au_nu]; omega)⟩ ?_
      refine w_ist6 (pc' := 59) dX1_fits_57 rfl rfl ?_
      refine w_aload_n (pc' := 60) dX1_fits_59 rfl rfl ?_
      refine w_mga 8 (pc' := 63) dX1_fits_60 rfl fX1_34_1 rfl ?_
      refine w_bipush (pc' := 65) dX1_fits_63 rfl (by decide +kernel) (by decide) ?_
      refine w_iload (pc' := 67) dX1_fits_65 rfl rfl ?_
      refine w_imul (pc' := 68) dX1_fits_67 rfl ⟨by first | omega | (simp (decide := true) only [au_1, nu_2, au_lt, nu_lt, aw_e, nw_e, au_s, au_n, nu_s, nu_n, au_au, nu_nu, au_nu]; omega), by first | omega | (simp (decide := true) only [au_1, nu_2, au_lt, nu_lt, aw_e, nw_e, au_s, au_n, nu_s, nu_n, au_au, nu_nu, au_nu]; omega)⟩ ?_
      refine w_iload (pc' := 70) dX1_fits_68 rfl rfl ?_
      refine w_iadd (pc' := 71) dX1_fits_70 rfl ⟨by first | omega | (simp (decide := true) only [au_1, nu_2, au_lt, nu_lt, aw_e, nw_e, au_s, au_n, nu_s, nu_n, au_au, nu_nu, au_nu]; omega), by first | omega | (simp (decide := true) only [au_1, nu_2, au_lt, nu_lt, aw_e, nw_e, au_s, au_n, nu_s, nu_n, au_au, nu_nu, au_nu]; omega)⟩ ?_
      refine w_mild (pc' := 72) dX1_fits_71 rfl rfl (by first | omega | (simp (decide := true) only [au_1, nu_2, au_lt, nu_lt, aw_e, nw_e, au_s, au_n, nu_s, nu_n, au_au, nu_nu, au_nu]; omega)) (by first | omega | (simp (decide := true) only [au_1, nu_2, au_lt, nu_lt, aw_e, nw_e, au_s, au_n, nu_s, nu_n, au_au, nu_nu, au_nu]; omega)) ?_
      refine w_ist7 (pc' := 74) dX1_fits_72 rfl rfl ?_
      refine w_aload_n (pc' := 75) dX1_fits_74 rfl rfl ?_
      refine w_iload_n (pc' := 76) dX1_fits_75 rfl rfl ?_
      refine w_iload_n (pc' := 77) dX1_fits_76 rfl rfl ?_
      refine w_i2l (pc' := 78) dX1_fits_77 rfl ?_
      refine w_iload (pc' := 80) dX1_fits_78 rfl rfl ?_
      refine w_iconst (pc' := 81) dX1_fits_80 rfl (by decide) ?_
      refine w_iadd (pc' := 82) dX1_fits_81 rfl ⟨by first | omega | (simp (decide := true) only [au_1, nu_2, au_lt, nu_lt, aw_e, nw_e, au_s, au_n, nu_s, nu_n, au_au, nu_nu, au_nu]; omega), by first | omega | (simp (decide := true) only [au_1, nu_2, au_lt, nu_lt, aw_e, nw_e, au_s, au_n, nu_s, nu_n, au_au, nu_nu, au_nu]; omega)⟩ ?_
      refine w_i2l (pc' := 83) dX1_fits_82 rfl ?_
      -- at 83: .invokevirtual 204
      try simp (decide := true) only [au_1, nu_2, au_lt, nu_lt, aw_e, nw_e, au_s, au_n, nu_s, nu_n, au_au, nu_nu, au_nu]
      refine w_callV3 (pc' := 86) (mc := 0) (ms := 0) dX1_fits_83 rfl tX1_has q1326 rfl rfl qs47 q1324 ov_o rfl (Nat.le_of_ble_eq_true rfl) (Nat.le_of_ble_eq_true rfl) ?_
      refine c_X1_has hR hP hp ⟨by omega, by omega⟩ (fun q => w_p1 ?_) (fun q => w_p1 ?_)
      · refine w_if_eq (pc' := 89) (tgt := 109) dX1_fits_86 rfl rfl (fun h_ => False.elim (by first | omega | (simp (decide := true) only [au_1, nu_2, au_lt, nu_lt, aw_e, nw_e, au_s, au_n, nu_s, nu_n, au_au, nu_nu, au_nu] at h_; omega))) (fun h_ => ?_)
        refine w_aload_n (pc' := 90) dX1_fits_89 rfl rfl ?_
        refine w_iload (pc' := 92) dX1_fits_90 rfl rfl ?_
        refine w_aload_n (pc' := 93) dX1_fits_92 rfl rfl ?_
        refine w_iload_n (pc' := 94) dX1_fits_93 rfl rfl ?_
        refine w_iload_n (pc' := 95) dX1_fits_94 rfl rfl ?_
        refine w_iload (pc' := 97) dX1_fits_95 rfl rfl ?_
        refine w_iconst (pc' := 98) dX1_fits_97 rfl (by decide) ?_
        refine w_iadd (pc' := 99) dX1_fits_98 rfl ⟨by first | omega | (simp (decide := true) only [au_1, nu_2, au_lt, nu_lt, aw_e, nw_e, au_s, au_n, nu_s, nu_n, au_au, nu_nu, au_nu]; omega), by first | omega | (simp (decide := true) only [au_1, nu_2, au_lt, nu_lt, aw_e, nw_e, au_s, au_n, nu_s, nu_n, au_au, nu_nu, au_nu]; omega)⟩ ?_
        -- at 99: .invokevirtual 212
        try simp (decide := true) only [au_1, nu_2, au_lt, nu_lt, aw_e, nw_e, au_s, au_n, nu_s, nu_n, au_au, nu_nu, au_nu]
        refine w_callV3 (pc' := 102) (mc := 0) (ms := 0) dX1_fits_99 rfl tX1_cellAt q1349 rfl rfl qs51 q1347 ov_o rfl (Nat.le_of_ble_eq_true rfl) (Nat.le_of_ble_eq_true rfl) ?_
        refine c_X1_cellAt hR hP hp q ?_
        refine w_p1 ?_
        refine w_iconst (pc' := 103) dX1_fits_102 rfl (by decide) ?_
        -- at 103: .invokevirtual 263
        try simp (decide := true) only [au_1, nu_2, au_lt, nu_lt, aw_e, nw_e, au_s, au_n, nu_s, nu_n, au_au, nu_nu, au_nu]
        refine w_callV3 (pc' := 106) (mc := 0) (ms := 0) dX1_fits_103 rfl tX1_fit q1445 rfl rfl qs58 q1443 ov_o rfl (Nat.le_of_ble_eq_true rfl) (Nat.le_of_ble_eq_true rfl) ?_
        refine c_X1_fit hK hc (ca_ok hR hP hp q) ⟨by omega, by omega⟩ (fun r => w_p1 ?_) (fun r => w_p1 ?_)
        · refine w_if_eq (pc' := 109) (tgt := 113) dX1_fits_106 rfl rfl (fun h_ => False.elim (by first | omega | (simp (decide := true) only [au_1, nu_2, au_lt, nu_lt, aw_e, nw_e, au_s, au_n, nu_s, nu_n, au_au, nu_nu, au_nu] at h_; omega))) (fun h_ => ?_)
          refine w_iconst (pc' := 110) dX1_fits_109 rfl (by decide) ?_
          refine w_goto (tgt := 114) dX1_fits_110 rfl ?_
          -- at 114: .istore 8
          try simp (decide := true) only [au_1, nu_2, au_lt, nu_lt, aw_e, nw_e, au_s, au_n, nu_s, nu_n, au_au, nu_nu, au_nu]
          exact below _ (Or.inl ⟨rfl, Or.inr r⟩) _
        · refine w_if_eq (pc' := 109) (tgt := 113) dX1_fits_106 rfl rfl (fun h_ => ?_) (fun h_ => False.elim (by first | omega | (simp (decide := true) only [au_1, nu_2, au_lt, nu_lt, aw_e, nw_e, au_s, au_n, nu_s, nu_n, au_au, nu_nu, au_nu] at h_; omega)))
          refine w_iconst (pc' := 114) dX1_fits_113 rfl (by decide) ?_
          -- at 114: .istore 8
          try simp (decide := true) only [au_1, nu_2, au_lt, nu_lt, aw_e, nw_e, au_s, au_n, nu_s, nu_n, au_au, nu_nu, au_nu]
          exact below _ (Or.inr ⟨rfl, fun z => z.elim (fun z => z q) r⟩) _
      · refine w_if_eq (pc' := 89) (tgt := 109) dX1_fits_86 rfl rfl (fun h_ => ?_) (fun h_ => False.elim (by first | omega | (simp (decide := true) only [au_1, nu_2, au_lt, nu_lt, aw_e, nw_e, au_s, au_n, nu_s, nu_n, au_au, nu_nu, au_nu] at h_; omega)))
        refine w_iconst (pc' := 110) dX1_fits_109 rfl (by decide) ?_
        refine w_goto (tgt := 114) dX1_fits_110 rfl ?_
        -- at 114: .istore 8
        try simp (decide := true) only [au_1, nu_2, au_lt, nu_lt, aw_e, nw_e, au_s, au_n, nu_s, nu_n, au_au, nu_nu, au_nu]
        exact below _ (Or.inl ⟨rfl, Or.inl q⟩) _
theorem c_X1_comesAgain {p dn on : Int} (hR : rok σ) (hP : pok σ) (hp : 0 ≤ p ∧ p < σ.1 12) (hd : 0 ≤ dn ∧ dn ≤ 1000) (ho : 0 ≤ on ∧ on ≤ 1000) (h1 : cag σ p dn on → K (some (xI 1)) (ov σ G0)) (h0 : ¬ cag σ p dn on → K (some (xI 0)) (ov σ G0)) : tvW mX1_comesAgain (d + 3) K 0 [some (xR mR), some (xI p), some (xI dn), some (xI on), none, none, none, none] [] (ov σ G0) bc bs := by
  have hM := (hP.2 p hp.1 hp.2).1
  have hp1 := hP.1
  refine w_iconst (pc' := 1) dX1_comesAgain_0 rfl (by decide) ?_
  refine w_ist4 (pc' := 3) dX1_comesAgain_1 rfl rfl ?_
  -- at 3: .iload 4
  try simp (decide := true) only [au_1, nu_2, au_lt, nu_lt, aw_e, nw_e, au_s, au_n, nu_s, nu_n, au_au, nu_nu, au_nu]
  refine up (T := fun i => ∀ x5 x6 x7 : Option XV, (∀ i', 0 ≤ i' → i' < i → ∀ k, 0 ≤ k → k < (σ.2 6 (rw_ σ p i')) → hs_ σ p (i' + dn) ((σ.2 7 (rw_ σ p i')) + k + on) → ca_ σ p (i' + dn) ((σ.2 7 (rw_ σ p i')) + k + on) = (σ.2 8 (60 * rw_ σ p i' + k))) → tvW mX1_comesAgain (d + 3) K 3 [some (xR mR), some (xI p), some (xI dn), some (xI on), some (xI i), x5, x6, x7] [] (ov σ G0) bc bs) (σ.2 11 p) hM.1 (fun x5 x6 x7 hn => ?_) (fun i i0 i1 ih x5 x6 x7 hn => ?_) _ _ _ (fun i' a b => by omega)
  · refine w_iload (pc' := 5) dX1_comesAgain_3 rfl rfl ?_
    refine w_aload_n (pc' := 6) dX1_comesAgain_5 rfl rfl ?_
    refine w_mga 11 (pc' := 9) dX1_comesAgain_6 rfl fX1_40_1 rfl ?_
    refine w_iload_n (pc' := 10) dX1_comesAgain_9 rfl rfl ?_
    refine w_mild (pc' := 11) dX1_comesAgain_10 rfl rfl (by first | omega | (simp (decide := true) only [au_1, nu_2, au_lt, nu_lt, aw_e, nw_e, au_s, au_n, nu_s, nu_n, au_au, nu_nu, au_nu]; omega)) (by first | omega | (simp (decide := true) only [au_1, nu_2, au_lt, nu_lt, aw_e, nw_e, au_s, au_n, nu_s, nu_n, au_au, nu_nu, au_nu]; omega)) ?_
    -- at 11: .if_icmp .ge 100
    try simp (decide := true) only [au_1, nu_2, au_lt, nu_lt, aw_e, nw_e, au_s, au_n, nu_s, nu_n, au_au, nu_nu, au_nu]
    refine w_icmp_ge (pc' := 14) (tgt := 111) dX1_comesAgain_11 rfl rfl (fun h_ => ?_) (fun h_ => False.elim (by first | omega | (simp (decide := true) only [au_1, nu_2, au_lt, nu_lt, aw_e, nw_e, au_s, au_n, nu_s, nu_n, au_au, nu_nu, au_nu] at h_; omega)))
    refine w_iconst (pc' := 112) dX1_comesAgain_111 rfl (by decide) ?_
    -- at 112: .ireturn
    try simp (decide := true) only [au_1, nu_2, au_lt, nu_lt, aw_e, nw_e, au_s, au_n, nu_s, nu_n, au_au, nu_nu, au_nu]
    refine w_zreturn dX1_comesAgain_112 rfl (by first | exact Or.inl rfl | exact Or.inr rfl | omega) ?_
    exact h1 hn
  · obtain ⟨b1r, b2, b3, b4, b5, b6⟩ := prow hR hP hp i0 i1
    refine w_iload (pc' := 5) dX1_comesAgain_3 rfl rfl ?_
    refine w_aload_n (pc' := 6) dX1_comesAgain_5 rfl rfl ?_
    refine w_mga 11 (pc' := 9) dX1_comesAgain_6 rfl fX1_40_1 rfl ?_
    refine w_iload_n (pc' := 10) dX1_comesAgain_9 rfl rfl ?_
    refine w_mild (pc' := 11) dX1_comesAgain_10 rfl rfl (by first | omega | (simp (decide := true) only [au_1, nu_2, au_lt, nu_lt, aw_e, nw_e, au_s, au_n, nu_s, nu_n, au_au, nu_nu, au_nu]; omega)) (by first | omega | (simp (decide := true) only [au_1, nu_2, au_lt, nu_lt, aw_e, nw_e, au_s, au_n, nu_s, nu_n, au_au, nu_nu, au_nu]; omega)) ?_
    -- at 11: .if_icmp .ge 100
    try simp (decide := true) only [au_1, nu_2, au_lt, nu_lt, aw_e, nw_e, au_s, au_n, nu_s, nu_n, au_au, nu_nu, au_nu]
    refine w_icmp_ge (pc' := 14) (tgt := 111) dX1_comesAgain_11 rfl rfl (fun h_ => False.elim (by first | omega | (simp (decide := true) only [au_1, nu_2, au_lt, nu_lt, aw_e, nw_e, au_s, au_n, nu_s, nu_n, au_au, nu_nu, au_nu] at h_; omega))) (fun h_ => ?_)
    refine w_aload_n (pc' := 15) dX1_comesAgain_14 rfl rfl ?_
    refine w_iload_n (pc' := 16) dX1_comesAgain_15 rfl rfl ?_
    refine w_iload (pc' := 18) dX1_comesAgain_16 rfl rfl ?_
    -- at 18: .invokevirtual 175
    try simp (decide := true) only [au_1, nu_2, au_lt, nu_lt, aw_e, nw_e, au_s, au_n, nu_s, nu_n, au_au, nu_nu, au_nu]
    refine w_callV2 (pc' := 21) (mc := 0) (ms := 0) dX1_comesAgain_18 rfl tX1_rowOf q1302 rfl rfl qs44 q1300 ov_o rfl (Nat.le_of_ble_eq_true rfl) (Nat.le_of_ble_eq_true rfl) ?_
    refine c_X1_rowOf b5 b4 ?_
    refine w_p1 ?_
    refine w_ist5 (pc' := 23) dX1_comesAgain_21 rfl rfl ?_
    refine w_iconst (pc' := 24) dX1_comesAgain_23 rfl (by decide) ?_
    refine w_ist6 (pc' := 26) dX1_comesAgain_24 rfl rfl ?_
    -- at 26: .iload 6
    try simp (decide := true) only [au_1, nu_2, au_lt, nu_lt, aw_e, nw_e, au_s, au_n, nu_s, nu_n, au_au, nu_nu, au_nu]
    refine up (T := fun k => ∀ x7 : Option XV, (∀ k', 0 ≤ k' → k' < k → hs_ σ p (i + dn) ((σ.2 7 (rw_ σ p i)) + k' + on) → ca_ σ p (i + dn) ((σ.2 7 (rw_ σ p i)) + k' + on) = (σ.2 8 (60 * rw_ σ p i + k'))) → tvW mX1_comesAgain (d + 3) K 26 [some (xR mR), some (xI p), some (xI dn), some (xI on), some (xI i), some (xI (rw_ σ p i)), some (xI k), x7] [] (ov σ G0) bc bs) (σ.2 6 (rw_ σ p i)) b2.1 (fun x7 hk => ?_) (fun k k0 k1 ihk x7 hk => ?_) _ (fun k' a b => by omega)
    · refine w_iload (pc' := 28) dX1_comesAgain_26 rfl rfl ?_
      refine w_aload_n (pc' := 29) dX1_comesAgain_28 rfl rfl ?_
      refine w_mga 6 (pc' := 32) dX1_comesAgain_29 rfl fX1_27_1 rfl ?_
      refine w_iload (pc' := 34) dX1_comesAgain_32 rfl rfl ?_
      refine w_mild (pc' := 35) dX1_comesAgain_34 rfl rfl (by first | omega | (simp (decide := true) only [au_1, nu_2, au_lt, nu_lt, aw_e, nw_e, au_s, au_n, nu_s, nu_n, au_au, nu_nu, au_nu]; omega)) (by first | omega | (simp (decide := true) only [au_1, nu_2, au_lt, nu_lt, aw_e, nw_e, au_s, au_n, nu_s, nu_n, au_au, nu_nu, au_nu]; omega)) ?_
      -- at 35: .if_icmp .ge 70
      try simp (decide := true) only [au_1, nu_2, au_lt, nu_lt, aw_e, nw_e, au_s, au_n, nu_s, nu_n, au_au, nu_nu, au_nu]
      refine w_icmp_ge (pc' := 38) (tgt := 105) dX1_comesAgain_35 rfl rfl (fun h_ => ?_) (fun h_ => False.elim (by first | omega | (simp (decide := true) only [au_1, nu_2, au_lt, nu_lt, aw_e, nw_e, au_s, au_n, nu_s, nu_n, au_au, nu_nu, au_nu] at h_; omega)))
      refine w_inc4 (pc' := 108) dX1_comesAgain_105 rfl rfl ⟨by first | omega | (simp (decide := true) only [au_1, nu_2, au_lt, nu_lt, aw_e, nw_e, au_s, au_n, nu_s, nu_n, au_au, nu_nu, au_nu]; omega), by first | omega | (simp (decide := true) only [au_1, nu_2, au_lt, nu_lt, aw_e, nw_e, au_s, au_n, nu_s, nu_n, au_au, nu_nu, au_nu]; omega)⟩ ?_
      refine w_goto (tgt := 3) dX1_comesAgain_108 rfl ?_
      -- at 3: .iload 4
      try simp (decide := true) only [au_1, nu_2, au_lt, nu_lt, aw_e, nw_e, au_s, au_n, nu_s, nu_n, au_au, nu_nu, au_nu]
      refine ih _ _ _ (fun i' q0 q1 => ?_)
      by_cases e : i' = i
      · rw [e]; exact hk
      · exact hn i' q0 (by omega)
    · have next : (hs_ σ p (i + dn) ((σ.2 7 (rw_ σ p i)) + k + on) → ca_ σ p (i + dn) ((σ.2 7 (rw_ σ p i)) + k + on) = (σ.2 8 (60 * rw_ σ p i + k))) → ∀ x7, tvW mX1_comesAgain (d + 3) K 99 [some (xR mR), some (xI p), some (xI dn), some (xI on), some (xI i), some (xI (rw_ σ p i)), some (xI k), x7] [] (ov σ G0) bc bs := by
        intro q x7
        refine w_inc6 (pc' := 102) dX1_comesAgain_99 rfl rfl ⟨by first | omega | (simp (decide := true) only [au_1, nu_2, au_lt, nu_lt, aw_e, nw_e, au_s, au_n, nu_s, nu_n, au_au, nu_nu, au_nu]; omega), by first | omega | (simp (decide := true) only [au_1, nu_2, au_lt, nu_lt, aw_e, nw_e, au_s, au_n, nu_s, nu_n, au_au, nu_nu, au_nu]; omega)⟩ ?_
        refine w_goto (tgt := 26) dX1_comesAgain_102 rfl ?_
        -- at 26: .iload 6
        try simp (decide := true) only [au_1, nu_2, au_lt, nu_lt, aw_e, nw_e, au_s, au_n, nu_s, nu_n, au_au, nu_nu, au_nu]
        refine ihk _ (fun k' q0 q1 => ?_)
        by_cases e : k' = k
        · rw [e]; exact q
        · exact hk k' q0 (by omega)
      refine w_iload (pc' := 28) dX1_comesAgain_26 rfl rfl ?_
      refine w_aload_n (pc' := 29) dX1_comesAgain_28 rfl rfl ?_
      refine w_mga 6 (pc' := 32) dX1_comesAgain_29 rfl fX1_27_1 rfl ?_
      refine w_iload (pc' := 34) dX1_comesAgain_32 rfl rfl ?_
      refine w_mild (pc' := 35) dX1_comesAgain_34 rfl rfl (by first | omega | (simp (decide := true) only [au_1, nu_2, au_lt, nu_lt, aw_e, nw_e, au_s, au_n, nu_s, nu_n, au_au, nu_nu, au_nu]; omega)) (by first | omega | (simp (decide := true) only [au_1, nu_2, au_lt, nu_lt, aw_e, nw_e, au_s, au_n, nu_s, nu_n, au_au, nu_nu, au_nu]; omega)) ?_
      -- at 35: .if_icmp .ge 70
      try simp (decide := true) only [au_1, nu_2, au_lt, nu_lt, aw_e, nw_e, au_s, au_n, nu_s, nu_n, au_au, nu_nu, au_nu]
      refine w_icmp_ge (pc' := 38) (tgt := 105) dX1_comesAgain_35 rfl rfl (fun h_ => False.elim (by first | omega | (simp (decide := true) only [au_1, nu_2, au_lt, nu_lt, aw_e, nw_e, au_s, au_n, nu_s, nu_n, au_au, nu_nu, au_nu] at h_; omega))) (fun h_ => ?_)
      refine w_aload_n (pc' := 39) dX1_comesAgain_38 rfl rfl ?_
      refine w_mga 7 (pc' := 42) dX1_comesAgain_39 rfl fX1_30_1 rfl ?_
      refine w_iload (pc' := 44) dX1_comesAgain_42 rfl rfl ?_
      refine w_mild (pc' := 45) dX1_comesAgain_44 rfl rfl (by first | omega | (simp (decide := true) only [au_1, nu_2, au_lt, nu_lt, aw_e, nw_e, au_s, au_n, nu_s, nu_n, au_au, nu_nu, au_nu]; omega)) (by first | omega | (simp (decide := true) only [au_1, nu_2, au_lt, nu_lt, aw_e, nw_e, au_s, au_n, nu_s, nu_n, au_au, nu_nu, au_nu]; omega)) ?_
      refine w_iload (pc' := 47) dX1_comesAgain_45 rfl rfl ?_
      refine w_iadd (pc' := 48) dX1_comesAgain_47 rfl ⟨by first | omega | (simp (decide := true) only [au_1, nu_2, au_lt, nu_lt, aw_e, nw_e, au_s, au_n, nu_s, nu_n, au_au, nu_nu, au_nu]; omega), by first | omega | (simp (decide := true) only [au_1, nu_2, au_lt, nu_lt, aw_e, nw_e, au_s, au_n, nu_s, nu_n, au_au, nu_nu, au_nu]; omega)⟩ ?_
      refine w_ist7 (pc' := 50) dX1_comesAgain_48 rfl rfl ?_
      refine w_aload_n (pc' := 51) dX1_comesAgain_50 rfl rfl ?_
      refine w_iload_n (pc' := 52) dX1_comesAgain_51 rfl rfl ?_
      refine w_iload (pc' := 54) dX1_comesAgain_52 rfl rfl ?_
      refine w_iload_n (pc' := 55) dX1_comesAgain_54 rfl rfl ?_
      refine w_iadd (pc' := 56) dX1_comesAgain_55 rfl ⟨by first | omega | (simp (decide := true) only [au_1, nu_2, au_lt, nu_lt, aw_e, nw_e, au_s, au_n, nu_s, nu_n, au_au, nu_nu, au_nu]; omega), by first | omega | (simp (decide := true) only [au_1, nu_2, au_lt, nu_lt, aw_e, nw_e, au_s, au_n, nu_s, nu_n, au_au, nu_nu, au_nu]; omega)⟩ ?_
      refine w_i2l (pc' := 57) dX1_comesAgain_56 rfl ?_
      refine w_iload (pc' := 59) dX1_comesAgain_57 rfl rfl ?_
      refine w_iload_n (pc' := 60) dX1_comesAgain_59 rfl rfl ?_
      refine w_iadd (pc' := 61) dX1_comesAgain_60 rfl ⟨by first | omega | (simp (decide := true) only [au_1, nu_2, au_lt, nu_lt, aw_e, nw_e, au_s, au_n, nu_s, nu_n, au_au, nu_nu, au_nu]; omega), by first | omega | (simp (decide := true) only [au_1, nu_2, au_lt, nu_lt, aw_e, nw_e, au_s, au_n, nu_s, nu_n, au_au, nu_nu, au_nu]; omega)⟩ ?_
      refine w_i2l (pc' := 62) dX1_comesAgain_61 rfl ?_
      -- at 62: .invokevirtual 204
      try simp (decide := true) only [au_1, nu_2, au_lt, nu_lt, aw_e, nw_e, au_s, au_n, nu_s, nu_n, au_au, nu_nu, au_nu]
      refine w_callV3 (pc' := 65) (mc := 0) (ms := 0) dX1_comesAgain_62 rfl tX1_has q1326 rfl rfl qs47 q1324 ov_o rfl (Nat.le_of_ble_eq_true rfl) (Nat.le_of_ble_eq_true rfl) ?_
      refine c_X1_has hR hP hp ⟨by omega, by omega⟩ (fun q => w_p1 ?_) (fun q => w_p1 ?_)
      · refine w_if_eq (pc' := 68) (tgt := 99) dX1_comesAgain_65 rfl rfl (fun h_ => False.elim (by first | omega | (simp (decide := true) only [au_1, nu_2, au_lt, nu_lt, aw_e, nw_e, au_s, au_n, nu_s, nu_n, au_au, nu_nu, au_nu] at h_; omega))) (fun h_ => ?_)
        refine w_aload_n (pc' := 69) dX1_comesAgain_68 rfl rfl ?_
        refine w_iload_n (pc' := 70) dX1_comesAgain_69 rfl rfl ?_
        refine w_iload (pc' := 72) dX1_comesAgain_70 rfl rfl ?_
        refine w_iload_n (pc' := 73) dX1_comesAgain_72 rfl rfl ?_
        refine w_iadd (pc' := 74) dX1_comesAgain_73 rfl ⟨by first | omega | (simp (decide := true) only [au_1, nu_2, au_lt, nu_lt, aw_e, nw_e, au_s, au_n, nu_s, nu_n, au_au, nu_nu, au_nu]; omega), by first | omega | (simp (decide := true) only [au_1, nu_2, au_lt, nu_lt, aw_e, nw_e, au_s, au_n, nu_s, nu_n, au_au, nu_nu, au_nu]; omega)⟩ ?_
        refine w_iload (pc' := 76) dX1_comesAgain_74 rfl rfl ?_
        refine w_iload_n (pc' := 77) dX1_comesAgain_76 rfl rfl ?_
        refine w_iadd (pc' := 78) dX1_comesAgain_77 rfl ⟨by first | omega | (simp (decide := true) only [au_1, nu_2, au_lt, nu_lt, aw_e, nw_e, au_s, au_n, nu_s, nu_n, au_au, nu_nu, au_nu]; omega), by first | omega | (simp (decide := true) only [au_1, nu_2, au_lt, nu_lt, aw_e, nw_e, au_s, au_n, nu_s, nu_n, au_au, nu_nu, au_nu]; omega)⟩ ?_
        -- at 78: .invokevirtual 212
        try simp (decide := true) only [au_1, nu_2, au_lt, nu_lt, aw_e, nw_e, au_s, au_n, nu_s, nu_n, au_au, nu_nu, au_nu]
        refine w_callV3 (pc' := 81) (mc := 0) (ms := 0) dX1_comesAgain_78 rfl tX1_cellAt q1349 rfl rfl qs51 q1347 ov_o rfl (Nat.le_of_ble_eq_true rfl) (Nat.le_of_ble_eq_true rfl) ?_
        refine c_X1_cellAt hR hP hp q ?_
        refine w_p1 ?_
        refine w_aload_n (pc' := 82) dX1_comesAgain_81 rfl rfl ?_
        refine w_mga 8 (pc' := 85) dX1_comesAgain_82 rfl fX1_34_1 rfl ?_
        refine w_bipush (pc' := 87) dX1_comesAgain_85 rfl (by decide +kernel) (by decide) ?_
        refine w_iload (pc' := 89) dX1_comesAgain_87 rfl rfl ?_
        refine w_imul (pc' := 90) dX1_comesAgain_89 rfl ⟨by first | omega | (simp (decide := true) only [au_1, nu_2, au_lt, nu_lt, aw_e, nw_e, au_s, au_n, nu_s, nu_n, au_au, nu_nu, au_nu]; omega), by first | omega | (simp (decide := true) only [au_1, nu_2, au_lt, nu_lt, aw_e, nw_e, au_s, au_n, nu_s, nu_n, au_au, nu_nu, au_nu]; omega)⟩ ?_
        refine w_iload (pc' := 92) dX1_comesAgain_90 rfl rfl ?_
        refine w_iadd (pc' := 93) dX1_comesAgain_92 rfl ⟨by first | omega | (simp (decide := true) only [au_1, nu_2, au_lt, nu_lt, aw_e, nw_e, au_s, au_n, nu_s, nu_n, au_au, nu_nu, au_nu]; omega), by first | omega | (simp (decide := true) only [au_1, nu_2, au_lt, nu_lt, aw_e, nw_e, au_s, au_n, nu_s, nu_n, au_au, nu_nu, au_nu]; omega)⟩ ?_
        refine w_mild (pc' := 94) dX1_comesAgain_93 rfl rfl (by first | omega | (simp (decide := true) only [au_1, nu_2, au_lt, nu_lt, aw_e, nw_e, au_s, au_n, nu_s, nu_n, au_au, nu_nu, au_nu]; omega)) (by first | omega | (simp (decide := true) only [au_1, nu_2, au_lt, nu_lt, aw_e, nw_e, au_s, au_n, nu_s, nu_n, au_au, nu_nu, au_nu]; omega)) ?_
        -- at 94: .if_icmp .eq 5
        try simp (decide := true) only [au_1, nu_2, au_lt, nu_lt, aw_e, nw_e, au_s, au_n, nu_s, nu_n, au_au, nu_nu, au_nu]
        refine w_icmp_eq (pc' := 97) (tgt := 99) dX1_comesAgain_94 rfl rfl (fun g => ?_) (fun g => ?_)
        · exact next (fun _ => g) _
        · refine w_iconst (pc' := 98) dX1_comesAgain_97 rfl (by decide) ?_
          -- at 98: .ireturn
          try simp (decide := true) only [au_1, nu_2, au_lt, nu_lt, aw_e, nw_e, au_s, au_n, nu_s, nu_n, au_au, nu_nu, au_nu]
          refine w_zreturn dX1_comesAgain_98 rfl (by first | exact Or.inl rfl | exact Or.inr rfl | omega) ?_
          exact h0 (fun z => g (z i i0 i1 k k0 k1 q))
      · refine w_if_eq (pc' := 68) (tgt := 99) dX1_comesAgain_65 rfl rfl (fun h_ => ?_) (fun h_ => False.elim (by first | omega | (simp (decide := true) only [au_1, nu_2, au_lt, nu_lt, aw_e, nw_e, au_s, au_n, nu_s, nu_n, au_au, nu_nu, au_nu] at h_; omega)))
        exact next (fun z => absurd z q) _
theorem c_X1_period {p w : Int} (hR : rok σ) (hP : pok σ) (h : K (some (xI (aPer σ p w))) (ov σ G0)) : tvW mX1_period (d + 4) K 0 [some (xR mR), some (xI p), some (xI w), none] [] (ov σ G0) bc bs := by
  unfold aPer at h
  have bad : ¬ ((0 ≤ p ∧ p < σ.1 12) ∧ 0 ≤ w ∧ w ≤ 1) → tvW mX1_period (d + 4) K 17 [some (xR mR), some (xI p), some (xI w), none] [] (ov σ G0) bc bs := by
    intro q
    rw [ic_f q] at h
    refine w_iconst (pc' := 18) dX1_period_17 rfl (by decide) ?_
    -- at 18: .ireturn
    try simp (decide := true) only [au_1, nu_2, au_lt, nu_lt, aw_e, nw_e, au_s, au_n, nu_s, nu_n, au_au, nu_nu, au_nu]
    refine w_ireturn dX1_period_18 rfl ?_
    exact h
  refine w_aload_n (pc' := 1) dX1_period_0 rfl rfl ?_
  refine w_iload_n (pc' := 2) dX1_period_1 rfl rfl ?_
  refine w_callV1 (pc' := 5) (mc := 0) (ms := 0) dX1_period_2 rfl tX1_isPattern q1294 rfl rfl qs42 q1292 ov_o rfl (Nat.le_of_ble_eq_true rfl) (Nat.le_of_ble_eq_true rfl) ?_
  refine c_X1_isPattern  (fun g2a g2b => w_p1 ?_) (fun g2 => w_p1 ?_)
  rotate_left
  · refine w_if_eq (pc' := 8) (tgt := 17) dX1_period_5 rfl rfl (fun h_ => ?_) (fun h_ => False.elim (by omega))
    exact bad (by omega)
  refine w_if_eq (pc' := 8) (tgt := 17) dX1_period_5 rfl rfl (fun h_ => False.elim (by omega)) (fun h_ => ?_)
  refine w_iload_n (pc' := 9) dX1_period_8 rfl rfl ?_
  refine w_if_lt (pc' := 12) (tgt := 17) dX1_period_9 rfl rfl (fun g9 => by exact bad (by omega)) (fun g9 => ?_)
  refine w_iload_n (pc' := 13) dX1_period_12 rfl rfl ?_
  refine w_iconst (pc' := 14) dX1_period_13 rfl (by decide) ?_
  refine w_icmp_le (pc' := 17) (tgt := 19) dX1_period_14 rfl rfl (fun g14 => ?_) (fun g14 => by exact bad (by omega))
  -- at 19: .iconst 1
  have hp : 0 ≤ p ∧ p < σ.1 12 := ⟨g2a, g2b⟩
  rw [ic_t ⟨hp, by omega, by omega⟩] at h
  have hM := (hP.2 p hp.1 hp.2).1
  have last : cag σ p (if w = 0 then 150 else 0) (if w = 0 then 0 else 150) := by
    intro i i0 i1 k k0 k1 hs
    obtain ⟨b1r, b2, b3, b4, b5, b6⟩ := prow hR hP hp i0 i1
    split at hs
    · rename_i e
      have := hs.2.1
      omega
    · rename_i e
      obtain ⟨s1, s2, s3, s4⟩ := hs
      obtain ⟨b1r', b2', b3', b4', b5', b6'⟩ := prow hR hP hp s1 s2
      omega
  refine w_iconst (pc' := 20) dX1_period_19 rfl (by decide) ?_
  refine w_ist3 (pc' := 21) dX1_period_20 rfl rfl ?_
  -- at 21: .aload_n 0
  try simp (decide := true) only [au_1, nu_2, au_lt, nu_lt, aw_e, nw_e, au_s, au_n, nu_s, nu_n, au_au, nu_nu, au_nu]
  have body : ∀ a, 1 ≤ a → a ≤ 150 → (cag σ p (if w = 0 then a else 0) (if w = 0 then 0 else a) → tvW mX1_period (d + 4) K 53 [some (xR mR), some (xI p), some (xI w), some (xI a)] [] (ov σ G0) bc bs) → (¬ cag σ p (if w = 0 then a else 0) (if w = 0 then 0 else a) → tvW mX1_period (d + 4) K 47 [some (xR mR), some (xI p), some (xI w), some (xI a)] [] (ov σ G0) bc bs) → tvW mX1_period (d + 4) K 21 [some (xR mR), some (xI p), some (xI w), some (xI a)] [] (ov σ G0) bc bs := by
    intro a a0 a1 y n
    refine w_aload_n (pc' := 22) dX1_period_21 rfl rfl ?_
    refine w_iload_n (pc' := 23) dX1_period_22 rfl rfl ?_
    refine w_iload_n (pc' := 24) dX1_period_23 rfl rfl ?_
    -- at 24: .ifCond .ne 7
    try simp (decide := true) only [au_1, nu_2, au_lt, nu_lt, aw_e, nw_e, au_s, au_n, nu_s, nu_n, au_au, nu_nu, au_nu]
    refine w_if_ne (pc' := 27) (tgt := 31) dX1_period_24 rfl rfl (fun g => ?_) (fun g => ?_)
    · rw [if_neg g, if_neg g] at y n
      refine w_iconst (pc' := 32) dX1_period_31 rfl (by decide) ?_
      refine w_iload_n (pc' := 33) dX1_period_32 rfl rfl ?_
      -- at 33: .ifCond .ne 7
      try simp (decide := true) only [au_1, nu_2, au_lt, nu_lt, aw_e, nw_e, au_s, au_n, nu_s, nu_n, au_au, nu_nu, au_nu]
      refine w_if_ne (pc' := 36) (tgt := 40) dX1_period_33 rfl rfl (fun h_ => ?_) (fun h_ => False.elim (by first | omega | (simp (decide := true) only [au_1, nu_2, au_lt, nu_lt, aw_e, nw_e, au_s, au_n, nu_s, nu_n, au_au, nu_nu, au_nu] at h_; omega)))
      refine w_iload_n (pc' := 41) dX1_period_40 rfl rfl ?_
      -- at 41: .invokevirtual 266
      try simp (decide := true) only [au_1, nu_2, au_lt, nu_lt, aw_e, nw_e, au_s, au_n, nu_s, nu_n, au_au, nu_nu, au_nu]
      refine w_callV3 (pc' := 44) (mc := 0) (ms := 0) dX1_period_41 rfl tX1_comesAgain q1453 rfl rfl qs59 q1451 ov_o rfl (Nat.le_of_ble_eq_true rfl) (Nat.le_of_ble_eq_true rfl) ?_
      refine c_X1_comesAgain hR hP hp ⟨by omega, by omega⟩ ⟨by omega, by omega⟩ (fun q => w_p1 ?_) (fun q => w_p1 ?_)
      · refine w_if_ne (pc' := 47) (tgt := 53) dX1_period_44 rfl rfl (fun h_ => ?_) (fun h_ => False.elim (by first | omega | (simp (decide := true) only [au_1, nu_2, au_lt, nu_lt, aw_e, nw_e, au_s, au_n, nu_s, nu_n, au_au, nu_nu, au_nu] at h_; omega)))
        exact y q
      · refine w_if_ne (pc' := 47) (tgt := 53) dX1_period_44 rfl rfl (fun h_ => False.elim (by first | omega | (simp (decide := true) only [au_1, nu_2, au_lt, nu_lt, aw_e, nw_e, au_s, au_n, nu_s, nu_n, au_au, nu_nu, au_nu] at h_; omega))) (fun h_ => ?_)
        exact n q
    · rw [if_pos g, if_pos g] at y n
      refine w_iload_n (pc' := 28) dX1_period_27 rfl rfl ?_
      refine w_goto (tgt := 32) dX1_period_28 rfl ?_
      refine w_iload_n (pc' := 33) dX1_period_32 rfl rfl ?_
      -- at 33: .ifCond .ne 7
      try simp (decide := true) only [au_1, nu_2, au_lt, nu_lt, aw_e, nw_e, au_s, au_n, nu_s, nu_n, au_au, nu_nu, au_nu]
      refine w_if_ne (pc' := 36) (tgt := 40) dX1_period_33 rfl rfl (fun h_ => False.elim (by first | omega | (simp (decide := true) only [au_1, nu_2, au_lt, nu_lt, aw_e, nw_e, au_s, au_n, nu_s, nu_n, au_au, nu_nu, au_nu] at h_; omega))) (fun h_ => ?_)
      refine w_iconst (pc' := 37) dX1_period_36 rfl (by decide) ?_
      refine w_goto (tgt := 41) dX1_period_37 rfl ?_
      -- at 41: .invokevirtual 266
      try simp (decide := true) only [au_1, nu_2, au_lt, nu_lt, aw_e, nw_e, au_s, au_n, nu_s, nu_n, au_au, nu_nu, au_nu]
      refine w_callV3 (pc' := 44) (mc := 0) (ms := 0) dX1_period_41 rfl tX1_comesAgain q1453 rfl rfl qs59 q1451 ov_o rfl (Nat.le_of_ble_eq_true rfl) (Nat.le_of_ble_eq_true rfl) ?_
      refine c_X1_comesAgain hR hP hp ⟨by omega, by omega⟩ ⟨by omega, by omega⟩ (fun q => w_p1 ?_) (fun q => w_p1 ?_)
      · refine w_if_ne (pc' := 47) (tgt := 53) dX1_period_44 rfl rfl (fun h_ => ?_) (fun h_ => False.elim (by first | omega | (simp (decide := true) only [au_1, nu_2, au_lt, nu_lt, aw_e, nw_e, au_s, au_n, nu_s, nu_n, au_au, nu_nu, au_nu] at h_; omega)))
        exact y q
      · refine w_if_ne (pc' := 47) (tgt := 53) dX1_period_44 rfl rfl (fun h_ => False.elim (by first | omega | (simp (decide := true) only [au_1, nu_2, au_lt, nu_lt, aw_e, nw_e, au_s, au_n, nu_s, nu_n, au_au, nu_nu, au_nu] at h_; omega))) (fun h_ => ?_)
        exact n q
  refine up (T := fun a => 1 ≤ a → (∀ a', 0 ≤ a' → a' < a → ¬ (1 ≤ a' ∧ cag σ p (if w = 0 then a' else 0) (if w = 0 then 0 else a'))) → tvW mX1_period (d + 4) K 21 [some (xR mR), some (xI p), some (xI w), some (xI a)] [] (ov σ G0) bc bs) (a := 1) 150 (by omega) (fun a0 hn => ?_) (fun a a0 a1 ih _ hn => ?_) (by omega) (fun a' q0 q1 q => by omega)
  · refine body 150 (by omega) (by omega) (fun q => ?_) (fun q => absurd last q)
    rw [fi_hit (P := fun a => 1 ≤ a ∧ cag σ p (if w = 0 then a else 0) (if w = 0 then 0 else a)) (i := 150) (by omega) (by omega) ⟨by omega, q⟩ hn] at h
    refine w_iload_n (pc' := 54) dX1_period_53 rfl rfl ?_
    -- at 54: .ireturn
    try simp (decide := true) only [au_1, nu_2, au_lt, nu_lt, aw_e, nw_e, au_s, au_n, nu_s, nu_n, au_au, nu_nu, au_nu]
    refine w_ireturn dX1_period_54 rfl ?_
    exact h
  · refine body a a0 (by omega) (fun q => ?_) (fun q => ?_)
    · rw [fi_hit (P := fun a => 1 ≤ a ∧ cag σ p (if w = 0 then a else 0) (if w = 0 then 0 else a)) (i := a) (by omega) (by omega) ⟨by omega, q⟩ hn] at h
      refine w_iload_n (pc' := 54) dX1_period_53 rfl rfl ?_
      -- at 54: .ireturn
      try simp (decide := true) only [au_1, nu_2, au_lt, nu_lt, aw_e, nw_e, au_s, au_n, nu_s, nu_n, au_au, nu_nu, au_nu]
      refine w_ireturn dX1_period_54 rfl ?_
      exact h
    · refine w_inc3 (pc' := 50) dX1_period_47 rfl rfl ⟨by first | omega | (simp (decide := true) only [au_1, nu_2, au_lt, nu_lt, aw_e, nw_e, au_s, au_n, nu_s, nu_n, au_au, nu_nu, au_nu]; omega), by first | omega | (simp (decide := true) only [au_1, nu_2, au_lt, nu_lt, aw_e, nw_e, au_s, au_n, nu_s, nu_n, au_au, nu_nu, au_nu]; omega)⟩ ?_
      refine w_goto (tgt := 21) dX1_period_50 rfl ?_
      -- at 21: .aload_n 0
      try simp (decide := true) only [au_1, nu_2, au_lt, nu_lt, aw_e, nw_e, au_s, au_n, nu_s, nu_n, au_au, nu_nu, au_nu]
      refine ih (by omega) (fun a' q0 q1 => ?_)
      by_cases e : a' = a
      · rw [e]; exact fun z => q z.2
      · exact hn a' q0 (by omega)
end
