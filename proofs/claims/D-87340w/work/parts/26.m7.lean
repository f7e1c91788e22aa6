set_option maxRecDepth 10000
def cmQ (σ : MS) (p i j a b : Int) : Prop := σ.2 22 (a * σ.1 25 + b) ≠ 0 ∧ hs_ σ p (i + a) (j + b)
noncomputable def cms (σ : MS) (p i j a : Int) : Int := sm (fun b => b1 (cmQ σ p i j a b)) (σ.1 25)
/-- cells of row a of the region come to the cells f of row r, up to column n -/
noncomputable def pfl (σ : MS) (f : Int → Int) (p i j a r off n : Int) : Int → Int := fun q => ic ((0 ≤ q - 60 * r + off - j ∧ q - 60 * r + off - j < n) ∧ cmQ σ p i j a (q - 60 * r + off - j)) (σ.2 20 (a * σ.1 25 + (q - 60 * r + off - j))) (f q)
theorem pfl_0 {σ : MS} {f : Int → Int} {p i j a r off : Int} : pfl σ f p i j a r off 0 = f := by
  funext q; unfold pfl; rw [ic_f (by omega)]
theorem pfl_y {σ : MS} {f : Int → Int} {p i j a r off n z w : Int} (hn : 0 ≤ n) (hc : cmQ σ p i j a n) (hz : z = 60 * r + (j + n) - off) (hw : w = σ.2 20 (a * σ.1 25 + n)) : iset (pfl σ f p i j a r off n) z w = pfl σ f p i j a r off (n + 1) := by
  funext q
  unfold iset pfl
  by_cases h : q = z
  · rw [if_pos h]
    have e : q - 60 * r + off - j = n := by omega
    rw [e, ic_t ⟨by omega, hc⟩, hw]
  · rw [if_neg h]
    by_cases h2 : (0 ≤ q - 60 * r + off - j ∧ q - 60 * r + off - j < n) ∧ cmQ σ p i j a (q - 60 * r + off - j)
    · rw [ic_t h2, ic_t ⟨by omega, h2.2⟩]
    · rw [ic_f h2, ic_f (fun q2 => h2 ⟨by omega, q2.2⟩)]
theorem pfl_n {σ : MS} {f : Int → Int} {p i j a r off n : Int} (hc : ¬ cmQ σ p i j a n) : pfl σ f p i j a r off n = pfl σ f p i j a r off (n + 1) := by
  funext q
  unfold pfl
  by_cases h2 : (0 ≤ q - 60 * r + off - j ∧ q - 60 * r + off - j < n) ∧ cmQ σ p i j a (q - 60 * r + off - j)
  · rw [ic_t h2, ic_t ⟨by omega, h2.2⟩]
  · rw [ic_f h2, ic_f (fun q2 => h2 ⟨by
      have : q - 60 * r + off - j ≠ n := fun e => hc (e ▸ q2.2)
      omega, q2.2⟩)]
noncomputable def sPRow (σ τ : MS) (p i j a : Int) : MS := @ite MS (0 < cms σ p i j a) (Classical.propDecidable _) (au (sOwn τ p (i + a)) 8 (pfl σ ((sOwn τ p (i + a)).2 8) p i j a (τ.1 9) (τ.2 7 (rw_ τ p (i + a))) (σ.1 25))) τ
noncomputable def sPaste (σ : MS) (p i j : Int) : Nat → MS
  | 0 => sKeep σ p
  | n + 1 => sPRow σ (sPaste σ p i j n) p i j n
noncomputable def nPst (σ : MS) (p i j n : Int) : Int := sm (fun a => b1 (0 < cms σ p i j a)) n
theorem hs_own {σ : MS} {p i q a b : Int} (hP : pok σ) (hq : 0 ≤ q ∧ q < σ.1 12) : hs_ (sOwn σ p i) q a b ↔ hs_ σ q a b := by
  unfold hs_
  rw [rw_own]
  simp (decide := true) only [sOwn, au_1, nu_2, au_lt, nu_lt, aw_e, nw_e, au_s, au_n, nu_s, nu_n, au_au, nu_nu, au_nu]
  by_cases h : 0 ≤ a ∧ a < σ.2 11 q
  · have hr := (hP.2 q hq.1 hq.2).2 a h.1 h.2
    by_cases g : 60 * q + a = 60 * p + i
    · rw [if_pos g]
      simp only [iset_s]
      rw [show rw_ σ p i = rw_ σ q a from congrArg (σ.2 10) g.symm]
    · rw [if_neg g]
      rw [iset_n (by omega), iset_n (by omega)]
  · constructor <;> intro x <;> exact absurd ⟨x.1, x.2.1⟩ h
/-- what a step of paste keeps -/
def pstI (σ τ : MS) : Prop := rok τ ∧ pok τ ∧ (∀ q a b, 0 ≤ q → q < σ.1 12 → (hs_ τ q a b ↔ hs_ σ q a b)) ∧ (τ.2 20 = σ.2 20 ∧ τ.2 22 = σ.2 22 ∧ τ.1 24 = σ.1 24 ∧ τ.1 25 = σ.1 25) ∧ τ.1 5 = σ.1 5 ∧ τ.1 12 = σ.1 12 ∧ τ.2 11 = σ.2 11
theorem pstI_cms {σ τ : MS} {p i j a : Int} (h : pstI σ τ) (hp : 0 ≤ p ∧ p < σ.1 12) : (∀ b, cmQ τ p i j a b ↔ cmQ σ p i j a b) ∧ cms τ p i j a = cms σ p i j a := by
  obtain ⟨-, -, hh, ⟨h20, h22, h24, h25⟩, -⟩ := h
  have e : ∀ b, cmQ τ p i j a b ↔ cmQ σ p i j a b := fun b => by unfold cmQ; rw [h22, h25, hh _ _ _ hp.1 hp.2]
  refine ⟨e, ?_⟩
  unfold cms
  rw [h25]
  exact sm_c (fun b _ _ => b1_c (e b))
theorem pstI_own {σ τ : MS} {p i : Int} (h : pstI σ τ) (hp : 0 ≤ p ∧ p < σ.1 12) (hi : 0 ≤ i ∧ i < σ.2 11 p) (hm : τ.1 9 < 6000) : pstI σ (sOwn τ p i) := by
  obtain ⟨hr, hP, hh, hg, h5, h12, h11⟩ := h
  have hpp := hP.2 p hp.1 (by rw [h12]; exact hp.2)
  have hi2 : 0 ≤ i ∧ i < τ.2 11 p := by rw [h11]; exact hi
  have hrw := hpp.2 i hi2.1 hi2.2
  refine ⟨rok_own hr hm hrw, pok_own hP hp.1 hi2 hpp.1.2 hr.1.1, fun q a b q0 q1 => ?_, hg, h5, h12, h11⟩
  rw [hs_own hP ⟨q0, by rw [h12]; exact q1⟩]
  exact hh q a b q0 q1
theorem pstI_cells {σ τ : MS} {f : Int → Int} (h : pstI σ τ) (hf : ∀ q, isC (σ.1 5) (τ.2 8 q) → isC (σ.1 5) (f q)) : pstI σ (au τ 8 f) := by
  obtain ⟨hr, hP, hh, hg, h5, h12, h11⟩ := h
  refine ⟨?_, hP, hh, hg, h5, h12, h11⟩
  refine ⟨hr.1, fun r r0 r1 => ?_⟩
  obtain ⟨l, o, c⟩ := hr.2 r r0 r1
  refine ⟨l, o, fun k k0 k1 => ?_⟩
  have := c k k0 k1
  rw [h5] at this
  show isC (τ.1 5) (f _)
  rw [h5]
  exact hf _ this
theorem gIx {σ : MS} (hG : gok σ) {a b : Int} (a0 : 0 ≤ a) (a1 : a < σ.1 24) (b0 : 0 ≤ b) (b1 : b < σ.1 25) : (0 ≤ a * σ.1 25 + b ∧ a * σ.1 25 + b < σ.1 24 * σ.1 25) ∧ (0 ≤ a * σ.1 25 ∧ a * σ.1 25 ≤ 400) ∧ a * σ.1 25 + b < 400 ∧ isC (σ.1 5) (σ.2 20 (a * σ.1 25 + b)) := by
  have h := ixr a0 a1 b0 b1
  obtain ⟨hg, hc⟩ := hG
  have h2 := mlr (A := 20) (B := 20) (a := σ.1 24) (b := σ.1 25) (by omega) (by omega) (by omega) (by omega)
  have h3 := mlr (A := 20) (B := 20) (a := a) (b := σ.1 25) (by omega) (by omega) (by omega) (by omega)
  exact ⟨h, ⟨by omega, by omega⟩, by omega, (hc _ h.1 h.2).1⟩
theorem cms_r {σ : MS} {p i j a : Int} (hg : 0 ≤ σ.1 25) : 0 ≤ cms σ p i j a ∧ cms σ p i j a ≤ σ.1 25 := by
  have := sm_r (f := fun b => b1 (cmQ σ p i j a b)) 1 hg (fun _ _ _ => b1_r _)
  unfold cms
  omega
theorem sm_pos {f : Int → Int} {n : Int} (h0 : 0 ≤ n) (hf : ∀ i, 0 ≤ i → i < n → f i ≤ 0) : sm f n ≤ 0 := by
  have : ∀ m : Nat, (m : Int) ≤ n → smN f m ≤ 0 := by
    intro m
    induction m with
    | zero => intro _; exact Int.le_refl _
    | succ m ih => intro hm; have := ih (by omega); have := hf m (by omega) (by omega); show smN f m + f m ≤ 0; omega
  exact this _ (by omega)
theorem cms_pos {σ : MS} {p i j a : Int} (hg : 0 ≤ σ.1 25) (h : 0 < cms σ p i j a) : ∃ b, 0 ≤ b ∧ b < σ.1 25 ∧ cmQ σ p i j a b := by
  apply Classical.byContradiction
  intro q
  have := sm_pos (f := fun b => b1 (cmQ σ p i j a b)) hg (fun b b0 b1' => by rw [b1_f (fun e => q ⟨b, b0, b1', e⟩)]; omega)
  unfold cms at h
  omega
theorem sPaste_I {σ : MS} {p i j : Int} (hR : rok σ) (hP : pok σ) (hG : gok σ) (hp : 0 ≤ p ∧ p < σ.1 12) (hg : σ.1 24 ≠ 0) (hm : nPst σ p i j (σ.1 24) ≤ 6000 - σ.1 9) : ∀ n : Nat, (n : Int) ≤ σ.1 24 → pstI σ (sPaste σ p i j n) ∧ (sPaste σ p i j n).1 9 = σ.1 9 + nPst σ p i j n ∧ nPst σ p i j n ≤ nPst σ p i j (σ.1 24) := by
  have mono : ∀ m n : Nat, m ≤ n → nPst σ p i j m ≤ nPst σ p i j n := by
    intro m n h
    induction n with
    | zero => rw [show m = 0 by omega]; exact Int.le_refl _
    | succ n ih =>
      by_cases e : m = n + 1
      · rw [e]; exact Int.le_refl _
      · have := ih (by omega)
        have h2 : nPst σ p i j ((n + 1 : Nat) : Int) = nPst σ p i j n + b1 (0 < cms σ p i j n) := by
          unfold nPst
          rw [show ((n + 1 : Nat) : Int) = (n : Int) + 1 by omega, sm_s (by omega)]
        have := b1_r (0 < cms σ p i j n)
        omega
  have hmono : ∀ n : Nat, (n : Int) ≤ σ.1 24 → nPst σ p i j n ≤ nPst σ p i j (σ.1 24) := by
    intro n hn
    have := mono n (σ.1 24).toNat (by omega)
    rwa [show (((σ.1 24).toNat : Nat) : Int) = σ.1 24 by omega] at this
  intro n
  induction n with
  | zero => intro _; exact ⟨⟨hR, hP, fun _ _ _ _ _ => Iff.rfl, ⟨rfl, rfl, rfl, rfl⟩, rfl, rfl, rfl⟩, by show σ.1 9 = σ.1 9 + 0; omega, hmono 0 (by omega)⟩
  | succ n ih =>
    intro hn
    obtain ⟨hI, hmd, hle⟩ := ih (by omega)
    have h2 : nPst σ p i j ((n + 1 : Nat) : Int) = nPst σ p i j n + b1 (0 < cms σ p i j n) := by
      unfold nPst
      rw [show ((n + 1 : Nat) : Int) = (n : Int) + 1 by omega, sm_s (by omega)]
    have h3 := hmono (n + 1) hn
    obtain ⟨hg2, hgc⟩ : (1 ≤ σ.1 24 ∧ σ.1 24 ≤ 20) ∧ (1 ≤ σ.1 25 ∧ σ.1 25 ≤ 20) := by have := hG.1; omega
    show pstI σ (sPRow σ (sPaste σ p i j n) p i j n) ∧ (sPRow σ (sPaste σ p i j n) p i j n).1 9 = _ ∧ _
    unfold sPRow
    generalize sPaste σ p i j n = τ at *
    by_cases hc : 0 < cms σ p i j n
    · rw [if_pos hc]
      rw [b1_t hc] at h2
      obtain ⟨b, b0, b1', hb⟩ := cms_pos (by omega) hc
      have hI2 := pstI_own (i := i + n) hI hp ⟨hb.2.1, hb.2.2.1⟩ (by omega)
      refine ⟨pstI_cells hI2 (fun q hq => ?_), ?_, h3⟩
      · unfold pfl
        by_cases h5 : (0 ≤ q - 60 * τ.1 9 + τ.2 7 (rw_ τ p (i + n)) - j ∧ q - 60 * τ.1 9 + τ.2 7 (rw_ τ p (i + n)) - j < σ.1 25) ∧ cmQ σ p i j n (q - 60 * τ.1 9 + τ.2 7 (rw_ τ p (i + n)) - j)
        · rw [ic_t h5]
          exact (gIx hG (by omega) (by omega) h5.1.1 h5.1.2).2.2.2
        · rw [ic_f h5]
          exact hq
      · show τ.1 9 + 1 = _
        omega
    · rw [if_neg hc]
      rw [b1_f hc] at h2
      exact ⟨hI, by omega, h3⟩
section
variable {d : Nat} {K : Option XV → GH → Prop} {G0 G : GH} {bc bs : Nat} {σ : MS} {M : tv_M} {pc : Nat} {L : List (Option XV)} {st : List XV}
theorem c_X1_comes {p i j a : Int} (hR : rok σ) (hP : pok σ) (hG : gok σ) (hp : 0 ≤ p ∧ p < σ.1 12) (hi : rg i) (hj : rg j) (ha : 0 ≤ a ∧ a < σ.1 24) (h : K (some (xI (cms σ p i j a))) (ov σ G0)) : tvW mX1_comes (d + 2) K 0 [some (xR mR), some (xI p), some (xI i), some (xI j), some (xI a), none, none] [] (ov σ G0) bc bs := by
  obtain ⟨hg2, hgc⟩ : (1 ≤ σ.1 24 ∧ σ.1 24 ≤ 20) ∧ (1 ≤ σ.1 25 ∧ σ.1 25 ≤ 20) := by have := hG.1; omega
  refine w_iconst (pc' := 1) dX1_comes_0 rfl (by decide) ?_
  refine w_ist5 (pc' := 3) dX1_comes_1 rfl rfl ?_
  refine w_iconst (pc' := 4) dX1_comes_3 rfl (by decide) ?_
  refine w_ist6 (pc' := 6) dX1_comes_4 rfl rfl ?_
  -- at 6: .iload 6
  try simp (decide := true) only [au_1, nu_2, au_lt, nu_lt, aw_e, nw_e, au_s, au_n, nu_s, nu_n, au_au, nu_nu, au_nu]
  refine up (T := fun b => tvW mX1_comes (d + 2) K 6 [some (xR mR), some (xI p), some (xI i), some (xI j), some (xI a), some (xI (sm (fun b => b1 (cmQ σ p i j a b)) b)), some (xI b)] [] (ov σ G0) bc bs) (a := 0) (σ.1 25) (by omega) ?_ (fun b b0 b1' ih => ?_)
  · refine w_iload (pc' := 8) dX1_comes_6 rfl rfl ?_
    refine w_aload_n (pc' := 9) dX1_comes_8 rfl rfl ?_
    refine w_mgi 25 (pc' := 12) dX1_comes_9 rfl fX1_224_1 rfl ?_
    -- at 12: .if_icmp .ge 57
    try simp (decide := true) only [au_1, nu_2, au_lt, nu_lt, aw_e, nw_e, au_s, au_n, nu_s, nu_n, au_au, nu_nu, au_nu]
    refine w_icmp_ge (pc' := 15) (tgt := 69) dX1_comes_12 rfl rfl (fun h_ => ?_) (fun h_ => False.elim (by first | omega | (simp (decide := true) only [au_1, nu_2, au_lt, nu_lt, aw_e, nw_e, au_s, au_n, nu_s, nu_n, au_au, nu_nu, au_nu] at h_; omega)))
    refine w_iload (pc' := 71) dX1_comes_69 rfl rfl ?_
    -- at 71: .ireturn
    try simp (decide := true) only [au_1, nu_2, au_lt, nu_lt, aw_e, nw_e, au_s, au_n, nu_s, nu_n, au_au, nu_nu, au_nu]
    refine w_ireturn dX1_comes_71 rfl ?_
    exact h
  · have hk := sm_r (f := fun b => b1 (cmQ σ p i j a b)) 1 b0 (fun _ _ _ => b1_r _)
    obtain ⟨h1, h2, h3, -⟩ := gIx hG ha.1 ha.2 b0 b1'
    rw [sm_s b0] at ih
    generalize sm (fun b => b1 (cmQ σ p i j a b)) b = S at *
    have la := lAdd_of (a := i) (b := a) ⟨by omega, by omega⟩
    have lb := lAdd_of (a := j) (b := b) ⟨by omega, by omega⟩
    have no : ¬ cmQ σ p i j a b → tvW mX1_comes (d + 2) K 59 [some (xR mR), some (xI p), some (xI i), some (xI j), some (xI a), some (xI S), some (xI b)] [xI S] (ov σ G0) bc bs := by
      intro q
      rw [b1_f q] at ih
      refine w_iconst (pc' := 60) dX1_comes_59 rfl (by decide) ?_
      refine w_iadd (pc' := 61) dX1_comes_60 rfl ⟨by first | omega | (simp (decide := true) only [au_1, nu_2, au_lt, nu_lt, aw_e, nw_e, au_s, au_n, nu_s, nu_n, au_au, nu_nu, au_nu]; omega), by first | omega | (simp (decide := true) only [au_1, nu_2, au_lt, nu_lt, aw_e, nw_e, au_s, au_n, nu_s, nu_n, au_au, nu_nu, au_nu]; omega)⟩ ?_
      refine w_ist5 (pc' := 63) dX1_comes_61 rfl rfl ?_
      refine w_inc6 (pc' := 66) dX1_comes_63 rfl rfl ⟨by first | omega | (simp (decide := true) only [au_1, nu_2, au_lt, nu_lt, aw_e, nw_e, au_s, au_n, nu_s, nu_n, au_au, nu_nu, au_nu]; omega), by first | omega | (simp (decide := true) only [au_1, nu_2, au_lt, nu_lt, aw_e, nw_e, au_s, au_n, nu_s, nu_n, au_au, nu_nu, au_nu]; omega)⟩ ?_
      refine w_goto (tgt := 6) dX1_comes_66 rfl ?_
      -- at 6: .iload 6
      try simp (decide := true) only [au_1, nu_2, au_lt, nu_lt, aw_e, nw_e, au_s, au_n, nu_s, nu_n, au_au, nu_nu, au_nu]
      exact ih
    refine w_iload (pc' := 8) dX1_comes_6 rfl rfl ?_
    refine w_aload_n (pc' := 9) dX1_comes_8 rfl rfl ?_
    refine w_mgi 25 (pc' := 12) dX1_comes_9 rfl fX1_224_1 rfl ?_
    -- at 12: .if_icmp .ge 57
    try simp (decide := true) only [au_1, nu_2, au_lt, nu_lt, aw_e, nw_e, au_s, au_n, nu_s, nu_n, au_au, nu_nu, au_nu]
    refine w_icmp_ge (pc' := 15) (tgt := 69) dX1_comes_12 rfl rfl (fun h_ => False.elim (by first | omega | (simp (decide := true) only [au_1, nu_2, au_lt, nu_lt, aw_e, nw_e, au_s, au_n, nu_s, nu_n, au_au, nu_nu, au_nu] at h_; omega))) (fun h_ => ?_)
    refine w_iload (pc' := 17) dX1_comes_15 rfl rfl ?_
    refine w_aload_n (pc' := 18) dX1_comes_17 rfl rfl ?_
    refine w_mga 22 (pc' := 21) dX1_comes_18 rfl fX1_58_1 rfl ?_
    refine w_iload (pc' := 23) dX1_comes_21 rfl rfl ?_
    refine w_aload_n (pc' := 24) dX1_comes_23 rfl rfl ?_
    refine w_mgi 25 (pc' := 27) dX1_comes_24 rfl fX1_224_1 rfl ?_
    refine w_imul (pc' := 28) dX1_comes_27 rfl ⟨by first | omega | (simp (decide := true) only [au_1, nu_2, au_lt, nu_lt, aw_e, nw_e, au_s, au_n, nu_s, nu_n, au_au, nu_nu, au_nu]; omega), by first | omega | (simp (decide := true) only [au_1, nu_2, au_lt, nu_lt, aw_e, nw_e, au_s, au_n, nu_s, nu_n, au_au, nu_nu, au_nu]; omega)⟩ ?_
    refine w_iload (pc' := 30) dX1_comes_28 rfl rfl ?_
    refine w_iadd (pc' := 31) dX1_comes_30 rfl ⟨by first | omega | (simp (decide := true) only [au_1, nu_2, au_lt, nu_lt, aw_e, nw_e, au_s, au_n, nu_s, nu_n, au_au, nu_nu, au_nu]; omega), by first | omega | (simp (decide := true) only [au_1, nu_2, au_lt, nu_lt, aw_e, nw_e, au_s, au_n, nu_s, nu_n, au_au, nu_nu, au_nu]; omega)⟩ ?_
    refine w_mzld (pc' := 32) dX1_comes_31 rfl rfl (by first | omega | (simp (decide := true) only [au_1, nu_2, au_lt, nu_lt, aw_e, nw_e, au_s, au_n, nu_s, nu_n, au_au, nu_nu, au_nu]; omega)) (by first | omega | (simp (decide := true) only [au_1, nu_2, au_lt, nu_lt, aw_e, nw_e, au_s, au_n, nu_s, nu_n, au_au, nu_nu, au_nu]; omega)) ?_
    -- at 32: .ifCond .eq 27
    try simp (decide := true) only [au_1, nu_2, au_lt, nu_lt, aw_e, nw_e, au_s, au_n, nu_s, nu_n, au_au, nu_nu, au_nu]
    refine w_if_eq (pc' := 35) (tgt := 59) dX1_comes_32 rfl rfl (fun g => ?_) (fun g => ?_)
    · exact no (fun q => q.1 g)
    · refine w_aload_n (pc' := 36) dX1_comes_35 rfl rfl ?_
      refine w_iload_n (pc' := 37) dX1_comes_36 rfl rfl ?_
      refine w_iload_n (pc' := 38) dX1_comes_37 rfl rfl ?_
      refine w_i2l (pc' := 39) dX1_comes_38 rfl ?_
      refine w_iload (pc' := 41) dX1_comes_39 rfl rfl ?_
      refine w_i2l (pc' := 42) dX1_comes_41 rfl ?_
      refine w_ladd (pc' := 43) dX1_comes_42 rfl ?_
      -- at 43: .iload_n 3
      try simp (decide := true) only [au_1, nu_2, au_lt, nu_lt, aw_e, nw_e, au_s, au_n, nu_s, nu_n, au_au, nu_nu, au_nu]
      rw [la]
      refine w_iload_n (pc' := 44) dX1_comes_43 rfl rfl ?_
      refine w_i2l (pc' := 45) dX1_comes_44 rfl ?_
      refine w_iload (pc' := 47) dX1_comes_45 rfl rfl ?_
      refine w_i2l (pc' := 48) dX1_comes_47 rfl ?_
      refine w_ladd (pc' := 49) dX1_comes_48 rfl ?_
      -- at 49: .invokevirtual 204
      try simp (decide := true) only [au_1, nu_2, au_lt, nu_lt, aw_e, nw_e, au_s, au_n, nu_s, nu_n, au_au, nu_nu, au_nu]
      rw [lb]
      refine w_callV3 (pc' := 52) (mc := 0) (ms := 0) dX1_comes_49 rfl tX1_has q1326 rfl rfl qs47 q1324 ov_o rfl (Nat.le_of_ble_eq_true rfl) (Nat.le_of_ble_eq_true rfl) ?_
      refine c_X1_has hR hP hp ⟨by omega, by omega⟩ (fun q => w_p1 ?_) (fun q => w_p1 ?_)
      · refine w_if_eq (pc' := 55) (tgt := 59) dX1_comes_52 rfl rfl (fun h_ => False.elim (by first | omega | (simp (decide := true) only [au_1, nu_2, au_lt, nu_lt, aw_e, nw_e, au_s, au_n, nu_s, nu_n, au_au, nu_nu, au_nu] at h_; omega))) (fun h_ => ?_)
        rw [b1_t (show cmQ σ p i j a b from ⟨g, q⟩)] at ih
        refine w_iconst (pc' := 56) dX1_comes_55 rfl (by decide) ?_
        refine w_goto (tgt := 60) dX1_comes_56 rfl ?_
        refine w_iadd (pc' := 61) dX1_comes_60 rfl ⟨by first | omega | (simp (decide := true) only [au_1, nu_2, au_lt, nu_lt, aw_e, nw_e, au_s, au_n, nu_s, nu_n, au_au, nu_nu, au_nu]; omega), by first | omega | (simp (decide := true) only [au_1, nu_2, au_lt, nu_lt, aw_e, nw_e, au_s, au_n, nu_s, nu_n, au_au, nu_nu, au_nu]; omega)⟩ ?_
        refine w_ist5 (pc' := 63) dX1_comes_61 rfl rfl ?_
        refine w_inc6 (pc' := 66) dX1_comes_63 rfl rfl ⟨by first | omega | (simp (decide := true) only [au_1, nu_2, au_lt, nu_lt, aw_e, nw_e, au_s, au_n, nu_s, nu_n, au_au, nu_nu, au_nu]; omega), by first | omega | (simp (decide := true) only [au_1, nu_2, au_lt, nu_lt, aw_e, nw_e, au_s, au_n, nu_s, nu_n, au_au, nu_nu, au_nu]; omega)⟩ ?_
        refine w_goto (tgt := 6) dX1_comes_66 rfl ?_
        -- at 6: .iload 6
        try simp (decide := true) only [au_1, nu_2, au_lt, nu_lt, aw_e, nw_e, au_s, au_n, nu_s, nu_n, au_au, nu_nu, au_nu]
        exact ih
      · refine w_if_eq (pc' := 55) (tgt := 59) dX1_comes_52 rfl rfl (fun h_ => ?_) (fun h_ => False.elim (by first | omega | (simp (decide := true) only [au_1, nu_2, au_lt, nu_lt, aw_e, nw_e, au_s, au_n, nu_s, nu_n, au_au, nu_nu, au_nu] at h_; omega)))
        exact no (fun r => q r.2)
theorem c_X1_paste {p i j : Int} (hR : rok σ) (hP : pok σ) (hU : uok σ) (hG : gok σ) (hi : rg i) (hj : rg j) (h1 : (0 ≤ p ∧ p < σ.1 12) → σ.1 24 ≠ 0 → nPst σ p i j (σ.1 24) ≠ 0 → nPst σ p i j (σ.1 24) ≤ 6000 - σ.1 9 → K (some (xI (sm (fun a => cms σ p i j a) (σ.1 24)))) (ov (sPaste σ p i j (σ.1 24).toNat) G0)) (h2 : (0 ≤ p ∧ p < σ.1 12) → σ.1 24 ≠ 0 → nPst σ p i j (σ.1 24) = 0 → K (some (xI 0)) (ov σ G0)) (h3 : (0 ≤ p ∧ p < σ.1 12) → σ.1 24 ≠ 0 → nPst σ p i j (σ.1 24) > 6000 - σ.1 9 → K (some (xI (-1))) (ov σ G0)) (h0 : ¬ ((0 ≤ p ∧ p < σ.1 12) ∧ σ.1 24 ≠ 0) → K (some (xI (-1))) (ov σ G0)) : tvW mX1_paste (d + 3) K 0 [some (xR mR), some (xI p), some (xI i), some (xI j), none, none, none, none, none] [] (ov σ G0) bc bs := by
  have bad : ¬ ((0 ≤ p ∧ p < σ.1 12) ∧ σ.1 24 ≠ 0) → tvW mX1_paste (d + 3) K 15 [some (xR mR), some (xI p), some (xI i), some (xI j), none, none, none, none, none] [] (ov σ G0) bc bs := by
    intro q
    refine w_iconst (pc' := 16) dX1_paste_15 rfl (by decide) ?_
    -- at 16: .ireturn
    try simp (decide := true) only [au_1, nu_2, au_lt, nu_lt, aw_e, nw_e, au_s, au_n, nu_s, nu_n, au_au, nu_nu, au_nu]
    refine w_ireturn dX1_paste_16 rfl ?_
    exact h0 q
  refine w_aload_n (pc' := 1) dX1_paste_0 rfl rfl ?_
  refine w_iload_n (pc' := 2) dX1_paste_1 rfl rfl ?_
  refine w_callV1 (pc' := 5) (mc := 0) (ms := 0) dX1_paste_2 rfl tX1_isPattern q1294 rfl rfl qs42 q1292 ov_o rfl (Nat.le_of_ble_eq_true rfl) (Nat.le_of_ble_eq_true rfl) ?_
  refine c_X1_isPattern  (fun g2a g2b => w_p1 ?_) (fun g2 => w_p1 ?_)
  rotate_left
  · refine w_if_eq (pc' := 8) (tgt := 15) dX1_paste_5 rfl rfl (fun h_ => ?_) (fun h_ => False.elim (by omega))
    exact bad (by omega)
  refine w_if_eq (pc' := 8) (tgt := 15) dX1_paste_5 rfl rfl (fun h_ => False.elim (by omega)) (fun h_ => ?_)
  refine w_aload_n (pc' := 9) dX1_paste_8 rfl rfl ?_
  refine w_mgi 24 (pc' := 12) dX1_paste_9 rfl fX1_221_1 rfl ?_
  refine w_if_ne (pc' := 15) (tgt := 17) dX1_paste_12 rfl rfl (fun g12 => ?_) (fun g12 => by exact bad (by omega))
  -- at 17: .iconst 0
  have hp : 0 ≤ p ∧ p < σ.1 12 := ⟨g2a, g2b⟩
  have h1 := h1 hp (by omega)
  have h2 := h2 hp (by omega)
  have h3 := h3 hp (by omega)
  obtain ⟨hg2, hgc⟩ : (1 ≤ σ.1 24 ∧ σ.1 24 ≤ 20) ∧ (1 ≤ σ.1 25 ∧ σ.1 25 ≤ 20) := by have := hG.1; omega
  have hcr : ∀ a, 0 ≤ cms σ p i j a ∧ cms σ p i j a ≤ 20 := fun a => by have := cms_r (σ := σ) (p := p) (i := i) (j := j) (a := a) (by omega); omega
  have hp16 := hP.1.2
  have hM := (hP.2 p hp.1 hp.2).1
  have hmd := hR.1
  have tail : ∀ x : Option XV, tvW mX1_paste (d + 3) K 60 [some (xR mR), some (xI p), some (xI i), some (xI j), some (xI (nPst σ p i j (σ.1 24))), x, none, none, none] [] (ov σ G0) bc bs := by
    intro x
    have hb := sm_r (f := fun a => b1 (0 < cms σ p i j a)) (n := σ.1 24) 1 (by omega) (fun _ _ _ => b1_r _)
    have hb : 0 ≤ nPst σ p i j (σ.1 24) ∧ nPst σ p i j (σ.1 24) ≤ 1 * σ.1 24 := hb
    have hI := sPaste_I (i := i) (j := j) hR hP hG hp (by omega)
    generalize nPst σ p i j (σ.1 24) = N at *
    refine w_iload (pc' := 62) dX1_paste_60 rfl rfl ?_
    -- at 62: .ifCond .ne 5
    try simp (decide := true) only [au_1, nu_2, au_lt, nu_lt, aw_e, nw_e, au_s, au_n, nu_s, nu_n, au_au, nu_nu, au_nu]
    refine w_if_ne (pc' := 65) (tgt := 67) dX1_paste_62 rfl rfl (fun g => ?_) (fun g => ?_)
    · refine w_iload (pc' := 69) dX1_paste_67 rfl rfl ?_
      refine w_sipush (pc' := 72) dX1_paste_69 rfl (by decide +kernel) (by decide) ?_
      refine w_aload_n (pc' := 73) dX1_paste_72 rfl rfl ?_
      refine w_mgi 9 (pc' := 76) dX1_paste_73 rfl fX1_172_1 rfl ?_
      refine w_isub (pc' := 77) dX1_paste_76 rfl ⟨by first | omega | (simp (decide := true) only [au_1, nu_2, au_lt, nu_lt, aw_e, nw_e, au_s, au_n, nu_s, nu_n, au_au, nu_nu, au_nu]; omega), by first | omega | (simp (decide := true) only [au_1, nu_2, au_lt, nu_lt, aw_e, nw_e, au_s, au_n, nu_s, nu_n, au_au, nu_nu, au_nu]; omega)⟩ ?_
      -- at 77: .if_icmp .le 5
      try simp (decide := true) only [au_1, nu_2, au_lt, nu_lt, aw_e, nw_e, au_s, au_n, nu_s, nu_n, au_au, nu_nu, au_nu]
      refine w_icmp_le (pc' := 80) (tgt := 82) dX1_paste_77 rfl rfl (fun g4 => ?_) (fun g4 => ?_)
      · have hI := hI (by omega)
        have h1 := h1 g (by omega)
        refine w_aload_n (pc' := 83) dX1_paste_82 rfl rfl ?_
        refine w_iload_n (pc' := 84) dX1_paste_83 rfl rfl ?_
        -- at 84: .invokevirtual 190
        try simp (decide := true) only [au_1, nu_2, au_lt, nu_lt, aw_e, nw_e, au_s, au_n, nu_s, nu_n, au_au, nu_nu, au_nu]
        refine w_callV1 (pc' := 87) (mc := 0) (ms := 0) dX1_paste_84 rfl tX1_keep q1298 rfl rfl qs43 q1296 ov_o rfl (Nat.le_of_ble_eq_true rfl) (Nat.le_of_ble_eq_true rfl) ?_
        refine c_X1_keep ⟨hU.1, hU.2.1⟩ ⟨hp.1, by omega⟩ hM ?_
        refine w_p0 ?_
        refine w_iconst (pc' := 88) dX1_paste_87 rfl (by decide) ?_
        refine w_ist5 (pc' := 90) dX1_paste_88 rfl rfl ?_
        refine w_iconst (pc' := 91) dX1_paste_90 rfl (by decide) ?_
        refine w_ist6 (pc' := 93) dX1_paste_91 rfl rfl ?_
        -- at 93: .iload 6
        try simp (decide := true) only [au_1, nu_2, au_lt, nu_lt, aw_e, nw_e, au_s, au_n, nu_s, nu_n, au_au, nu_nu, au_nu]
        have sP0 : sKeep σ p = sPaste σ p i j (0 : Int).toNat := rfl
        rw [sP0]
        refine up (T := fun a => ∀ y z : Option XV, tvW mX1_paste (d + 3) K 93 [some (xR mR), some (xI p), some (xI i), some (xI j), some (xI N), some (xI (sm (fun a => cms σ p i j a) a)), some (xI a), y, z] [] (ov (sPaste σ p i j a.toNat) G0) bc bs) (σ.1 24) (by omega) (fun y z => ?_) (fun a a0 a1 ih y z => ?_) none none
        · obtain ⟨⟨-, -, -, ⟨-, -, e24, -⟩, -⟩, -, -⟩ := hI (σ.1 24).toNat (by omega)
          refine w_iload (pc' := 95) dX1_paste_93 rfl rfl ?_
          refine w_aload_n (pc' := 96) dX1_paste_95 rfl rfl ?_
          refine w_mgi 24 (pc' := 99) dX1_paste_96 rfl fX1_221_1 rfl ?_
          -- at 99: .if_icmp .ge 133
          try simp (decide := true) only [au_1, nu_2, au_lt, nu_lt, aw_e, nw_e, au_s, au_n, nu_s, nu_n, au_au, nu_nu, au_nu]
          rw [e24]
          refine w_icmp_ge (pc' := 102) (tgt := 232) dX1_paste_99 rfl rfl (fun h_ => ?_) (fun h_ => False.elim (by first | omega | (simp (decide := true) only [au_1, nu_2, au_lt, nu_lt, aw_e, nw_e, au_s, au_n, nu_s, nu_n, au_au, nu_nu, au_nu] at h_; omega)))
          refine w_iload (pc' := 234) dX1_paste_232 rfl rfl ?_
          -- at 234: .ireturn
          try simp (decide := true) only [au_1, nu_2, au_lt, nu_lt, aw_e, nw_e, au_s, au_n, nu_s, nu_n, au_au, nu_nu, au_nu]
          refine w_ireturn dX1_paste_234 rfl ?_
          exact h1
        · rw [sm_s a0] at ih
          have hS := sm_r (f := fun a => cms σ p i j a) 20 a0 (fun a _ _ => hcr a)
          generalize sm (fun a => cms σ p i j a) a = S at *
          obtain ⟨hI1, hmd1, hle1⟩ := hI a.toNat (by omega)
          have hI2 := hI (a.toNat + 1) (by omega)
          have e1 : sPaste σ p i j (a + 1).toNat = sPRow σ (sPaste σ p i j a.toNat) p i j a := by
            rw [show (a + 1).toNat = a.toNat + 1 by omega]
            show sPRow σ (sPaste σ p i j a.toNat) p i j (a.toNat : Int) = _
            rw [show ((a.toNat : Nat) : Int) = a by omega]
          rw [e1] at ih
          have hmd2 : 0 < cms σ p i j a → (sPaste σ p i j a.toNat).1 9 < 6000 := by
            intro q
            obtain ⟨-, -, hle2⟩ := hI2
            have : nPst σ p i j ((a.toNat + 1 : Nat) : Int) = nPst σ p i j (a.toNat : Int) + b1 (0 < cms σ p i j a) := by
              unfold nPst
              rw [show ((a.toNat + 1 : Nat) : Int) = (a.toNat : Int) + 1 by omega, sm_s (by omega), show ((a.toNat : Nat) : Int) = a by omega]
            rw [b1_t q] at this
            omega
          unfold sPRow at ih
          generalize sPaste σ p i j a.toNat = τ at *
          have hI1' := hI1
          obtain ⟨tR, tP, tH, ⟨e20, e22, e24, e25⟩, e5, e12, e11⟩ := hI1
          have tG : gok τ := by
            unfold gok
            rw [e20, e22, e24, e25, e5]
            exact hG
          have hc2 := pstI_cms (i := i) (j := j) (a := a) hI1' hp
          refine w_iload (pc' := 95) dX1_paste_93 rfl rfl ?_
          refine w_aload_n (pc' := 96) dX1_paste_95 rfl rfl ?_
          refine w_mgi 24 (pc' := 99) dX1_paste_96 rfl fX1_221_1 rfl ?_
          -- at 99: .if_icmp .ge 133
          try simp (decide := true) only [au_1, nu_2, au_lt, nu_lt, aw_e, nw_e, au_s, au_n, nu_s, nu_n, au_au, nu_nu, au_nu]
          rw [e24]
          refine w_icmp_ge (pc' := 102) (tgt := 232) dX1_paste_99 rfl rfl (fun h_ => False.elim (by first | omega | (simp (decide := true) only [au_1, nu_2, au_lt, nu_lt, aw_e, nw_e, au_s, au_n, nu_s, nu_n, au_au, nu_nu, au_nu] at h_; omega))) (fun h_ => ?_)
          refine w_aload_n (pc' := 103) dX1_paste_102 rfl rfl ?_
          refine w_iload_n (pc' := 104) dX1_paste_103 rfl rfl ?_
          refine w_iload_n (pc' := 105) dX1_paste_104 rfl rfl ?_
          refine w_iload_n (pc' := 106) dX1_paste_105 rfl rfl ?_
          refine w_iload (pc' := 108) dX1_paste_106 rfl rfl ?_
          -- at 108: .invokevirtual 234
          try simp (decide := true) only [au_1, nu_2, au_lt, nu_lt, aw_e, nw_e, au_s, au_n, nu_s, nu_n, au_au, nu_nu, au_nu]
          refine w_callV4 (pc' := 111) (mc := 0) (ms := 0) dX1_paste_108 rfl tX1_comes q1399 rfl rfl qs54 q1397 ov_o rfl (Nat.le_of_ble_eq_true rfl) (Nat.le_of_ble_eq_true rfl) ?_
          refine c_X1_comes tR tP tG (by rw [e12]; exact hp) hi hj (by rw [e24]; exact ⟨a0, a1⟩) ?_
          refine w_p1 ?_
          rw [hc2.2]
          have hcra := hcr a
          refine w_ist7 (pc' := 113) dX1_paste_111 rfl rfl ?_
          refine w_iload (pc' := 115) dX1_paste_113 rfl rfl ?_
          -- at 115: .ifCond .ne 6
          try simp (decide := true) only [au_1, nu_2, au_lt, nu_lt, aw_e, nw_e, au_s, au_n, nu_s, nu_n, au_au, nu_nu, au_nu]
          refine w_if_ne (pc' := 118) (tgt := 121) dX1_paste_115 rfl rfl (fun g5 => ?_) (fun g5 => ?_)
          · have hpos : 0 < cms σ p i j a := by omega
            rw [if_pos hpos] at ih
            obtain ⟨b, b0, b1', hb3⟩ := cms_pos (by omega) hpos
            obtain ⟨s1, s2, -, -⟩ := hb3.2
            have hpp := tP.2 p hp.1 (by rw [e12]; exact hp.2)
            have hrw := hpp.2 (i + a) s1 (by rw [e11]; exact s2)
            have hI3 := pstI_own (i := i + a) hI1' hp ⟨s1, s2⟩ (hmd2 hpos)
            refine w_iload (pc' := 123) dX1_paste_121 rfl rfl ?_
            refine w_iload (pc' := 125) dX1_paste_123 rfl rfl ?_
            refine w_iadd (pc' := 126) dX1_paste_125 rfl ⟨by first | omega | (simp (decide := true) only [au_1, nu_2, au_lt, nu_lt, aw_e, nw_e, au_s, au_n, nu_s, nu_n, au_au, nu_nu, au_nu]; omega), by first | omega | (simp (decide := true) only [au_1, nu_2, au_lt, nu_lt, aw_e, nw_e, au_s, au_n, nu_s, nu_n, au_au, nu_nu, au_nu]; omega)⟩ ?_
            refine w_ist5 (pc' := 128) dX1_paste_126 rfl rfl ?_
            refine w_aload_n (pc' := 129) dX1_paste_128 rfl rfl ?_
            refine w_iload_n (pc' := 130) dX1_paste_129 rfl rfl ?_
            refine w_iload_n (pc' := 131) dX1_paste_130 rfl rfl ?_
            refine w_iload (pc' := 133) dX1_paste_131 rfl rfl ?_
            refine w_iadd (pc' := 134) dX1_paste_133 rfl ⟨by first | omega | (simp (decide := true) only [au_1, nu_2, au_lt, nu_lt, aw_e, nw_e, au_s, au_n, nu_s, nu_n, au_au, nu_nu, au_nu]; omega), by first | omega | (simp (decide := true) only [au_1, nu_2, au_lt, nu_lt, aw_e, nw_e, au_s, au_n, nu_s, nu_n, au_au, nu_nu, au_nu]; omega)⟩ ?_
            -- at 134: .invokevirtual 201
            try simp (decide := true) only [au_1, nu_2, au_lt, nu_lt, aw_e, nw_e, au_s, au_n, nu_s, nu_n, au_au, nu_nu, au_nu]
            refine w_callV2 (pc' := 137) (mc := 0) (ms := 0) dX1_paste_134 rfl tX1_own q1337 rfl rfl qs49 q1335 ov_o rfl (Nat.le_of_ble_eq_true rfl) (Nat.le_of_ble_eq_true rfl) ?_
            refine c_X1_own tR (hmd2 hpos) ⟨hp.1, by omega⟩ ⟨s1, by omega⟩ hrw ?_
            refine w_p0 ?_
            have er : rw_ (sOwn τ p (i + a)) p (i + a) = τ.1 9 := by rw [rw_own, if_pos rfl]
            have eo : (sOwn τ p (i + a)).2 7 (τ.1 9) = τ.2 7 (rw_ τ p (i + a)) := iset_s
            generalize τ.2 7 (rw_ τ p (i + a)) = off at *
            generalize τ.1 9 = r at *
            generalize sOwn τ p (i + a) = υ at *
            obtain ⟨uR, uP, uH, ⟨f20, f22, f24, f25⟩, f5, f12, f11⟩ := hI3
            refine w_iconst (pc' := 138) dX1_paste_137 rfl (by decide) ?_
            refine w_ist8 (pc' := 140) dX1_paste_138 rfl rfl ?_
            -- at 140: .iload 8
            try simp (decide := true) only [au_1, nu_2, au_lt, nu_lt, aw_e, nw_e, au_s, au_n, nu_s, nu_n, au_au, nu_nu, au_nu]
            refine w_ms (τ := au υ 8 (pfl σ (υ.2 8) p i j a r off 0)) (by rw [pfl_0, au_id]) ?_
            refine up (T := fun b => tvW mX1_paste (d + 3) K 140 [some (xR mR), some (xI p), some (xI i), some (xI j), some (xI N), some (xI (S + cms σ p i j a)), some (xI a), some (xI (cms σ p i j a)), some (xI b)] [] (ov (au υ 8 (pfl σ (υ.2 8) p i j a r off b)) G0) bc bs) (σ.1 25) (by omega) ?_ (fun b b0 b1' ih2 => ?_)
            · refine w_iload (pc' := 142) dX1_paste_140 rfl rfl ?_
              refine w_aload_n (pc' := 143) dX1_paste_142 rfl rfl ?_
              refine w_mgi 25 (pc' := 146) dX1_paste_143 rfl fX1_224_1 rfl ?_
              -- at 146: .if_icmp .ge 80
              try simp (decide := true) only [au_1, nu_2, au_lt, nu_lt, aw_e, nw_e, au_s, au_n, nu_s, nu_n, au_au, nu_nu, au_nu]
              rw [f25]
              refine w_icmp_ge (pc' := 149) (tgt := 226) dX1_paste_146 rfl rfl (fun h_ => ?_) (fun h_ => False.elim (by first | omega | (simp (decide := true) only [au_1, nu_2, au_lt, nu_lt, aw_e, nw_e, au_s, au_n, nu_s, nu_n, au_au, nu_nu, au_nu] at h_; omega)))
              refine w_inc6 (pc' := 229) dX1_paste_226 rfl rfl ⟨by first | omega | (simp (decide := true) only [au_1, nu_2, au_lt, nu_lt, aw_e, nw_e, au_s, au_n, nu_s, nu_n, au_au, nu_nu, au_nu]; omega), by first | omega | (simp (decide := true) only [au_1, nu_2, au_lt, nu_lt, aw_e, nw_e, au_s, au_n, nu_s, nu_n, au_au, nu_nu, au_nu]; omega)⟩ ?_
              refine w_goto (tgt := 93) dX1_paste_229 rfl ?_
              -- at 93: .iload 6
              try simp (decide := true) only [au_1, nu_2, au_lt, nu_lt, aw_e, nw_e, au_s, au_n, nu_s, nu_n, au_au, nu_nu, au_nu]
              exact ih _ _
            · obtain ⟨x1, x2, x3, -⟩ := gIx hG a0 a1 b0 b1'
              have la := lAdd_of (a := i) (b := a) ⟨by omega, by omega⟩
              have lb := lAdd_of (a := j) (b := b) ⟨by omega, by omega⟩
              have no : ¬ cmQ σ p i j a b → tvW mX1_paste (d + 3) K 220 [some (xR mR), some (xI p), some (xI i), some (xI j), some (xI N), some (xI (S + cms σ p i j a)), some (xI a), some (xI (cms σ p i j a)), some (xI b)] [] (ov (au υ 8 (pfl σ (υ.2 8) p i j a r off b)) G0) bc bs := by
                intro q
                rw [← pfl_n q] at ih2
                refine w_inc8 (pc' := 223) dX1_paste_220 rfl rfl ⟨by first | omega | (simp (decide := true) only [au_1, nu_2, au_lt, nu_lt, aw_e, nw_e, au_s, au_n, nu_s, nu_n, au_au, nu_nu, au_nu]; omega), by first | omega | (simp (decide := true) only [au_1, nu_2, au_lt, nu_lt, aw_e, nw_e, au_s, au_n, nu_s, nu_n, au_au, nu_nu, au_nu]; omega)⟩ ?_
                refine w_goto (tgt := 140) dX1_paste_223 rfl ?_
                -- at 140: .iload 8
                try simp (decide := true) only [au_1, nu_2, au_lt, nu_lt, aw_e, nw_e, au_s, au_n, nu_s, nu_n, au_au, nu_nu, au_nu]
                exact ih2
              refine w_iload (pc' := 142) dX1_paste_140 rfl rfl ?_
              refine w_aload_n (pc' := 143) dX1_paste_142 rfl rfl ?_
              refine w_mgi 25 (pc' := 146) dX1_paste_143 rfl fX1_224_1 rfl ?_
              -- at 146: .if_icmp .ge 80
              try simp (decide := true) only [au_1, nu_2, au_lt, nu_lt, aw_e, nw_e, au_s, au_n, nu_s, nu_n, au_au, nu_nu, au_nu]
              rw [f25]
              refine w_icmp_ge (pc' := 149) (tgt := 226) dX1_paste_146 rfl rfl (fun h_ => False.elim (by first | omega | (simp (decide := true) only [au_1, nu_2, au_lt, nu_lt, aw_e, nw_e, au_s, au_n, nu_s, nu_n, au_au, nu_nu, au_nu] at h_; omega))) (fun h_ => ?_)
              refine w_aload_n (pc' := 150) dX1_paste_149 rfl rfl ?_
              refine w_mga 22 (pc' := 153) dX1_paste_150 rfl fX1_58_1 rfl ?_
              refine w_iload (pc' := 155) dX1_paste_153 rfl rfl ?_
              refine w_aload_n (pc' := 156) dX1_paste_155 rfl rfl ?_
              refine w_mgi 25 (pc' := 159) dX1_paste_156 rfl fX1_224_1 rfl ?_
              -- at 159: .imul
              try simp (decide := true) only [au_1, nu_2, au_lt, nu_lt, aw_e, nw_e, au_s, au_n, nu_s, nu_n, au_au, nu_nu, au_nu]
              rw [f25]
              refine w_imul (pc' := 160) dX1_paste_159 rfl ⟨by first | omega | (simp (decide := true) only [au_1, nu_2, au_lt, nu_lt, aw_e, nw_e, au_s, au_n, nu_s, nu_n, au_au, nu_nu, au_nu]; omega), by first | omega | (simp (decide := true) only [au_1, nu_2, au_lt, nu_lt, aw_e, nw_e, au_s, au_n, nu_s, nu_n, au_au, nu_nu, au_nu]; omega)⟩ ?_
              refine w_iload (pc' := 162) dX1_paste_160 rfl rfl ?_
              refine w_iadd (pc' := 163) dX1_paste_162 rfl ⟨by first | omega | (simp (decide := true) only [au_1, nu_2, au_lt, nu_lt, aw_e, nw_e, au_s, au_n, nu_s, nu_n, au_au, nu_nu, au_nu]; omega), by first | omega | (simp (decide := true) only [au_1, nu_2, au_lt, nu_lt, aw_e, nw_e, au_s, au_n, nu_s, nu_n, au_au, nu_nu, au_nu]; omega)⟩ ?_
              refine w_mzld (pc' := 164) dX1_paste_163 rfl rfl (by first | omega | (simp (decide := true) only [au_1, nu_2, au_lt, nu_lt, aw_e, nw_e, au_s, au_n, nu_s, nu_n, au_au, nu_nu, au_nu]; omega)) (by first | omega | (simp (decide := true) only [au_1, nu_2, au_lt, nu_lt, aw_e, nw_e, au_s, au_n, nu_s, nu_n, au_au, nu_nu, au_nu]; omega)) ?_
              -- at 164: .ifCond .eq 56
              try simp (decide := true) only [au_1, nu_2, au_lt, nu_lt, aw_e, nw_e, au_s, au_n, nu_s, nu_n, au_au, nu_nu, au_nu]
              rw [f22]
              refine w_if_eq (pc' := 167) (tgt := 220) dX1_paste_164 rfl rfl (fun g6 => ?_) (fun g6 => ?_)
              · exact no (fun q => q.1 g6)
              · refine w_aload_n (pc' := 168) dX1_paste_167 rfl rfl ?_
                refine w_iload_n (pc' := 169) dX1_paste_168 rfl rfl ?_
                refine w_iload_n (pc' := 170) dX1_paste_169 rfl rfl ?_
                refine w_i2l (pc' := 171) dX1_paste_170 rfl ?_
                refine w_iload (pc' := 173) dX1_paste_171 rfl rfl ?_
                refine w_i2l (pc' := 174) dX1_paste_173 rfl ?_
                refine w_ladd (pc' := 175) dX1_paste_174 rfl ?_
                -- at 175: .iload_n 3
                try simp (decide := true) only [au_1, nu_2, au_lt, nu_lt, aw_e, nw_e, au_s, au_n, nu_s, nu_n, au_au, nu_nu, au_nu]
                rw [la]
                refine w_iload_n (pc' := 176) dX1_paste_175 rfl rfl ?_
                refine w_i2l (pc' := 177) dX1_paste_176 rfl ?_
                refine w_iload (pc' := 179) dX1_paste_177 rfl rfl ?_
                refine w_i2l (pc' := 180) dX1_paste_179 rfl ?_
                refine w_ladd (pc' := 181) dX1_paste_180 rfl ?_
                -- at 181: .invokevirtual 204
                try simp (decide := true) only [au_1, nu_2, au_lt, nu_lt, aw_e, nw_e, au_s, au_n, nu_s, nu_n, au_au, nu_nu, au_nu]
                rw [lb]
                refine w_callV3 (pc' := 184) (mc := 0) (ms := 0) dX1_paste_181 rfl tX1_has q1326 rfl rfl qs47 q1324 ov_o rfl (Nat.le_of_ble_eq_true rfl) (Nat.le_of_ble_eq_true rfl) ?_
                have uI : pstI σ (au υ 8 (pfl σ (υ.2 8) p i j a r off b)) := by
                  refine pstI_cells ⟨uR, uP, uH, ⟨f20, f22, f24, f25⟩, f5, f12, f11⟩ (fun q hq => ?_)
                  unfold pfl
                  by_cases h5 : (0 ≤ q - 60 * r + off - j ∧ q - 60 * r + off - j < b) ∧ cmQ σ p i j a (q - 60 * r + off - j)
                  · rw [ic_t h5]
                    exact (gIx hG a0 a1 h5.1.1 (by omega)).2.2.2
                  · rw [ic_f h5]
                    exact hq
                have hp2 : 0 ≤ p ∧ p < (au υ 8 (pfl σ (υ.2 8) p i j a r off b)).1 12 := by rw [show (au υ 8 (pfl σ (υ.2 8) p i j a r off b)).1 12 = υ.1 12 from rfl, f12]; exact hp
                refine c_X1_has uI.1 uI.2.1 hp2 ⟨by omega, by omega⟩ (fun q => w_p1 ?_) (fun q => w_p1 ?_)
                · have hcq : cmQ σ p i j a b := ⟨g6, (uH _ _ _ hp.1 hp.2).mp q⟩
                  have q2 : hs_ υ p (i + a) (j + b) := q
                  obtain ⟨q3, q4, q5, q6⟩ := q2
                  obtain ⟨z1, z2⟩ := (uP.2 p hp.1 (by rw [f12]; exact hp.2)).2 _ q3 q4
                  obtain ⟨⟨l1, l2⟩, ⟨o1, o2⟩, -⟩ := uR.2 _ z1 z2
                  refine w_if_eq (pc' := 187) (tgt := 220) dX1_paste_184 rfl rfl (fun h_ => False.elim (by first | omega | (simp (decide := true) only [au_1, nu_2, au_lt, nu_lt, aw_e, nw_e, au_s, au_n, nu_s, nu_n, au_au, nu_nu, au_nu] at h_; omega))) (fun h_ => ?_)
                  refine w_aload_n (pc' := 188) dX1_paste_187 rfl rfl ?_
                  refine w_mga 8 (pc' := 191) dX1_paste_188 rfl fX1_34_1 rfl ?_
                  refine w_aload_n (pc' := 192) dX1_paste_191 rfl rfl ?_
                  refine w_iload_n (pc' := 193) dX1_paste_192 rfl rfl ?_
                  refine w_iload_n (pc' := 194) dX1_paste_193 rfl rfl ?_
                  refine w_iload (pc' := 196) dX1_paste_194 rfl rfl ?_
                  refine w_iadd (pc' := 197) dX1_paste_196 rfl ⟨by first | omega | (simp (decide := true) only [au_1, nu_2, au_lt, nu_lt, aw_e, nw_e, au_s, au_n, nu_s, nu_n, au_au, nu_nu, au_nu]; omega), by first | omega | (simp (decide := true) only [au_1, nu_2, au_lt, nu_lt, aw_e, nw_e, au_s, au_n, nu_s, nu_n, au_au, nu_nu, au_nu]; omega)⟩ ?_
                  refine w_iload_n (pc' := 198) dX1_paste_197 rfl rfl ?_
                  refine w_iload (pc' := 200) dX1_paste_198 rfl rfl ?_
                  refine w_iadd (pc' := 201) dX1_paste_200 rfl ⟨by first | omega | (simp (decide := true) only [au_1, nu_2, au_lt, nu_lt, aw_e, nw_e, au_s, au_n, nu_s, nu_n, au_au, nu_nu, au_nu]; omega), by first | omega | (simp (decide := true) only [au_1, nu_2, au_lt, nu_lt, aw_e, nw_e, au_s, au_n, nu_s, nu_n, au_au, nu_nu, au_nu]; omega)⟩ ?_
                  -- at 201: .invokevirtual 178
                  try simp (decide := true) only [au_1, nu_2, au_lt, nu_lt, aw_e, nw_e, au_s, au_n, nu_s, nu_n, au_au, nu_nu, au_nu]
                  refine w_callV3 (pc' := 204) (mc := 0) (ms := 0) dX1_paste_201 rfl tX1_placeOf q1341 rfl rfl qs50 q1339 ov_o rfl (Nat.le_of_ble_eq_true rfl) (Nat.le_of_ble_eq_true rfl) ?_
                  refine c_X1_placeOf uI.1 uI.2.1 hp2 q ?_
                  refine w_p1 ?_
                  rw [show rw_ (au υ 8 (pfl σ (υ.2 8) p i j a r off b)) p (i + a) = r from er, show (au υ 8 (pfl σ (υ.2 8) p i j a r off b)).2 7 r = off from eo]
                  rw [er, eo] at q5
                  have q6 : j + b < off + υ.2 6 r := by rw [er, eo] at q6; exact q6
                  rw [er] at l2 z1 z2
                  have hr1 := uR.1
                  refine w_aload_n (pc' := 205) dX1_paste_204 rfl rfl ?_
                  refine w_mga 20 (pc' := 208) dX1_paste_205 rfl fX1_52_1 rfl ?_
                  refine w_iload (pc' := 210) dX1_paste_208 rfl rfl ?_
                  refine w_aload_n (pc' := 211) dX1_paste_210 rfl rfl ?_
                  refine w_mgi 25 (pc' := 214) dX1_paste_211 rfl fX1_224_1 rfl ?_
                  -- at 214: .imul
                  try simp (decide := true) only [au_1, nu_2, au_lt, nu_lt, aw_e, nw_e, au_s, au_n, nu_s, nu_n, au_au, nu_nu, au_nu]
                  rw [f25]
                  refine w_imul (pc' := 215) dX1_paste_214 rfl ⟨by first | omega | (simp (decide := true) only [au_1, nu_2, au_lt, nu_lt, aw_e, nw_e, au_s, au_n, nu_s, nu_n, au_au, nu_nu, au_nu]; omega), by first | omega | (simp (decide := true) only [au_1, nu_2, au_lt, nu_lt, aw_e, nw_e, au_s, au_n, nu_s, nu_n, au_au, nu_nu, au_nu]; omega)⟩ ?_
                  refine w_iload (pc' := 217) dX1_paste_215 rfl rfl ?_
                  refine w_iadd (pc' := 218) dX1_paste_217 rfl ⟨by first | omega | (simp (decide := true) only [au_1, nu_2, au_lt, nu_lt, aw_e, nw_e, au_s, au_n, nu_s, nu_n, au_au, nu_nu, au_nu]; omega), by first | omega | (simp (decide := true) only [au_1, nu_2, au_lt, nu_lt, aw_e, nw_e, au_s, au_n, nu_s, nu_n, au_au, nu_nu, au_nu]; omega)⟩ ?_
                  refine w_mild (pc' := 219) dX1_paste_218 rfl rfl (by first | omega | (simp (decide := true) only [au_1, nu_2, au_lt, nu_lt, aw_e, nw_e, au_s, au_n, nu_s, nu_n, au_au, nu_nu, au_nu]; omega)) (by first | omega | (simp (decide := true) only [au_1, nu_2, au_lt, nu_lt, aw_e, nw_e, au_s, au_n, nu_s, nu_n, au_au, nu_nu, au_nu]; omega)) ?_
                  refine w_aui (pc' := 220) dX1_paste_219 rfl rfl (by first | omega | (simp (decide := true) only [au_1, nu_2, au_lt, nu_lt, aw_e, nw_e, au_s, au_n, nu_s, nu_n, au_au, nu_nu, au_nu]; omega)) (by first | omega | (simp (decide := true) only [au_1, nu_2, au_lt, nu_lt, aw_e, nw_e, au_s, au_n, nu_s, nu_n, au_au, nu_nu, au_nu]; omega)) ?_
                  try simp (decide := true) only [au_1, nu_2, au_lt, nu_lt, aw_e, nw_e, au_s, au_n, nu_s, nu_n, au_au, nu_nu, au_nu]
                  refine w_inc8 (pc' := 223) dX1_paste_220 rfl rfl ⟨by first | omega | (simp (decide := true) only [au_1, nu_2, au_lt, nu_lt, aw_e, nw_e, au_s, au_n, nu_s, nu_n, au_au, nu_nu, au_nu]; omega), by first | omega | (simp (decide := true) only [au_1, nu_2, au_lt, nu_lt, aw_e, nw_e, au_s, au_n, nu_s, nu_n, au_au, nu_nu, au_nu]; omega)⟩ ?_
                  refine w_goto (tgt := 140) dX1_paste_223 rfl ?_
                  -- at 140: .iload 8
                  try simp (decide := true) only [au_1, nu_2, au_lt, nu_lt, aw_e, nw_e, au_s, au_n, nu_s, nu_n, au_au, nu_nu, au_nu]
                  rw [f20]
                  refine w_ms ?_ ih2
                  congr 1
                  exact pfl_y b0 hcq rfl rfl
                · refine w_if_eq (pc' := 187) (tgt := 220) dX1_paste_184 rfl rfl (fun h_ => ?_) (fun h_ => False.elim (by first | omega | (simp (decide := true) only [au_1, nu_2, au_lt, nu_lt, aw_e, nw_e, au_s, au_n, nu_s, nu_n, au_au, nu_nu, au_nu] at h_; omega)))
                  exact no (fun r => q ((uH _ _ _ hp.1 hp.2).mpr r.2))
          · rw [if_neg (by omega), g5, Int.add_zero] at ih
            refine w_goto (tgt := 226) dX1_paste_118 rfl ?_
            refine w_inc6 (pc' := 229) dX1_paste_226 rfl rfl ⟨by first | omega | (simp (decide := true) only [au_1, nu_2, au_lt, nu_lt, aw_e, nw_e, au_s, au_n, nu_s, nu_n, au_au, nu_nu, au_nu]; omega), by first | omega | (simp (decide := true) only [au_1, nu_2, au_lt, nu_lt, aw_e, nw_e, au_s, au_n, nu_s, nu_n, au_au, nu_nu, au_nu]; omega)⟩ ?_
            refine w_goto (tgt := 93) dX1_paste_229 rfl ?_
            -- at 93: .iload 6
            try simp (decide := true) only [au_1, nu_2, au_lt, nu_lt, aw_e, nw_e, au_s, au_n, nu_s, nu_n, au_au, nu_nu, au_nu]
            exact ih _ _
      · refine w_iconst (pc' := 81) dX1_paste_80 rfl (by decide) ?_
        -- at 81: .ireturn
        try simp (decide := true) only [au_1, nu_2, au_lt, nu_lt, aw_e, nw_e, au_s, au_n, nu_s, nu_n, au_au, nu_nu, au_nu]
        refine w_ireturn dX1_paste_81 rfl ?_
        exact h3 (by omega)
    · refine w_iconst (pc' := 66) dX1_paste_65 rfl (by decide) ?_
      -- at 66: .ireturn
      try simp (decide := true) only [au_1, nu_2, au_lt, nu_lt, aw_e, nw_e, au_s, au_n, nu_s, nu_n, au_au, nu_nu, au_nu]
      refine w_ireturn dX1_paste_66 rfl ?_
      exact h2 (by omega)
  refine w_iconst (pc' := 18) dX1_paste_17 rfl (by decide) ?_
  refine w_ist4 (pc' := 20) dX1_paste_18 rfl rfl ?_
  refine w_iconst (pc' := 21) dX1_paste_20 rfl (by decide) ?_
  refine w_ist5 (pc' := 23) dX1_paste_21 rfl rfl ?_
  -- at 23: .iload 5
  try simp (decide := true) only [au_1, nu_2, au_lt, nu_lt, aw_e, nw_e, au_s, au_n, nu_s, nu_n, au_au, nu_nu, au_nu]
  refine up (T := fun a => tvW mX1_paste (d + 3) K 23 [some (xR mR), some (xI p), some (xI i), some (xI j), some (xI (nPst σ p i j a)), some (xI a), none, none, none] [] (ov σ G0) bc bs) (a := 0) (σ.1 24) (by omega) ?_ (fun a a0 a1 ih => ?_)
  · refine w_iload (pc' := 25) dX1_paste_23 rfl rfl ?_
    refine w_aload_n (pc' := 26) dX1_paste_25 rfl rfl ?_
    refine w_mgi 24 (pc' := 29) dX1_paste_26 rfl fX1_221_1 rfl ?_
    -- at 29: .if_icmp .ge 31
    try simp (decide := true) only [au_1, nu_2, au_lt, nu_lt, aw_e, nw_e, au_s, au_n, nu_s, nu_n, au_au, nu_nu, au_nu]
    refine w_icmp_ge (pc' := 32) (tgt := 60) dX1_paste_29 rfl rfl (fun h_ => ?_) (fun h_ => False.elim (by first | omega | (simp (decide := true) only [au_1, nu_2, au_lt, nu_lt, aw_e, nw_e, au_s, au_n, nu_s, nu_n, au_au, nu_nu, au_nu] at h_; omega)))
    exact tail _
  · have hk := sm_r (f := fun a => b1 (0 < cms σ p i j a)) 1 a0 (fun _ _ _ => b1_r _)
    have hk : 0 ≤ nPst σ p i j a ∧ nPst σ p i j a ≤ 1 * a := hk
    rw [show nPst σ p i j (a + 1) = nPst σ p i j a + b1 (0 < cms σ p i j a) from sm_s a0] at ih
    refine w_iload (pc' := 25) dX1_paste_23 rfl rfl ?_
    refine w_aload_n (pc' := 26) dX1_paste_25 rfl rfl ?_
    refine w_mgi 24 (pc' := 29) dX1_paste_26 rfl fX1_221_1 rfl ?_
    -- at 29: .if_icmp .ge 31
    try simp (decide := true) only [au_1, nu_2, au_lt, nu_lt, aw_e, nw_e, au_s, au_n, nu_s, nu_n, au_au, nu_nu, au_nu]
    refine w_icmp_ge (pc' := 32) (tgt := 60) dX1_paste_29 rfl rfl (fun h_ => False.elim (by first | omega | (simp (decide := true) only [au_1, nu_2, au_lt, nu_lt, aw_e, nw_e, au_s, au_n, nu_s, nu_n, au_au, nu_nu, au_nu] at h_; omega))) (fun h_ => ?_)
    refine w_iload (pc' := 34) dX1_paste_32 rfl rfl ?_
    refine w_aload_n (pc' := 35) dX1_paste_34 rfl rfl ?_
    refine w_iload_n (pc' := 36) dX1_paste_35 rfl rfl ?_
    refine w_iload_n (pc' := 37) dX1_paste_36 rfl rfl ?_
    refine w_iload_n (pc' := 38) dX1_paste_37 rfl rfl ?_
    refine w_iload (pc' := 40) dX1_paste_38 rfl rfl ?_
    -- at 40: .invokevirtual 234
    try simp (decide := true) only [au_1, nu_2, au_lt, nu_lt, aw_e, nw_e, au_s, au_n, nu_s, nu_n, au_au, nu_nu, au_nu]
    refine w_callV4 (pc' := 43) (mc := 0) (ms := 0) dX1_paste_40 rfl tX1_comes q1399 rfl rfl qs54 q1397 ov_o rfl (Nat.le_of_ble_eq_true rfl) (Nat.le_of_ble_eq_true rfl) ?_
    refine c_X1_comes hR hP hG hp hi hj ⟨a0, a1⟩ ?_
    refine w_p1 ?_
    refine w_if_le (pc' := 46) (tgt := 50) dX1_paste_43 rfl rfl (fun g => ?_) (fun g => ?_)
    · rw [b1_f (by omega)] at ih
      refine w_iconst (pc' := 51) dX1_paste_50 rfl (by decide) ?_
      refine w_iadd (pc' := 52) dX1_paste_51 rfl ⟨by first | omega | (simp (decide := true) only [au_1, nu_2, au_lt, nu_lt, aw_e, nw_e, au_s, au_n, nu_s, nu_n, au_au, nu_nu, au_nu]; omega), by first | omega | (simp (decide := true) only [au_1, nu_2, au_lt, nu_lt, aw_e, nw_e, au_s, au_n, nu_s, nu_n, au_au, nu_nu, au_nu]; omega)⟩ ?_
      refine w_ist4 (pc' := 54) dX1_paste_52 rfl rfl ?_
      refine w_inc5 (pc' := 57) dX1_paste_54 rfl rfl ⟨by first | omega | (simp (decide := true) only [au_1, nu_2, au_lt, nu_lt, aw_e, nw_e, au_s, au_n, nu_s, nu_n, au_au, nu_nu, au_nu]; omega), by first | omega | (simp (decide := true) only [au_1, nu_2, au_lt, nu_lt, aw_e, nw_e, au_s, au_n, nu_s, nu_n, au_au, nu_nu, au_nu]; omega)⟩ ?_
      refine w_goto (tgt := 23) dX1_paste_57 rfl ?_
      -- at 23: .iload 5
      try simp (decide := true) only [au_1, nu_2, au_lt, nu_lt, aw_e, nw_e, au_s, au_n, nu_s, nu_n, au_au, nu_nu, au_nu]
      exact ih
    · rw [b1_t (by omega)] at ih
      refine w_iconst (pc' := 47) dX1_paste_46 rfl (by decide) ?_
      refine w_goto (tgt := 51) dX1_paste_47 rfl ?_
      refine w_iadd (pc' := 52) dX1_paste_51 rfl ⟨by first | omega | (simp (decide := true) only [au_1, nu_2, au_lt, nu_lt, aw_e, nw_e, au_s, au_n, nu_s, nu_n, au_au, nu_nu, au_nu]; omega), by first | omega | (simp (decide := true) only [au_1, nu_2, au_lt, nu_lt, aw_e, nw_e, au_s, au_n, nu_s, nu_n, au_au, nu_nu, au_nu]; omega)⟩ ?_
      refine w_ist4 (pc' := 54) dX1_paste_52 rfl rfl ?_
      refine w_inc5 (pc' := 57) dX1_paste_54 rfl rfl ⟨by first | omega | (simp (decide := true) only [au_1, nu_2, au_lt, nu_lt, aw_e, nw_e, au_s, au_n, nu_s, nu_n, au_au, nu_nu, au_nu]; omega), by first | omega | (simp (decide := true) only [au_1, nu_2, au_lt, nu_lt, aw_e, nw_e, au_s, au_n, nu_s, nu_n, au_au, nu_nu, au_nu]; omega)⟩ ?_
      refine w_goto (tgt := 23) dX1_paste_57 rfl ?_
      -- at 23: .iload 5
      try simp (decide := true) only [au_1, nu_2, au_lt, nu_lt, aw_e, nw_e, au_s, au_n, nu_s, nu_n, au_au, nu_nu, au_nu]
      exact ih
end
section
variable {d : Nat} {K : Option XV → GH → Prop} {G0 G : GH} {bc bs : Nat} {σ : MS} {M : tv_M} {pc : Nat} {L : List (Option XV)} {st : List XV}
theorem c_X1_isRule {k : Int} (h1 : 0 ≤ k → k < σ.1 29 → K (some (xI 1)) (ov σ G0)) (h0 : ¬ (0 ≤ k ∧ k < σ.1 29) → K (some (xI 0)) (ov σ G0)) : tvW mX1_isRule d K 0 [some (xR mR), some (xI k)] [] (ov σ G0) bc bs := by
  refine w_iload_n (pc' := 1) dX1_isRule_0 rfl rfl ?_
  -- at 1: .ifCond .lt 15
  try simp (decide := true) only [au_1, nu_2, au_lt, nu_lt, aw_e, nw_e, au_s, au_n, nu_s, nu_n, au_au, nu_nu, au_nu]
  refine w_if_lt (pc' := 4) (tgt := 16) dX1_isRule_1 rfl rfl (fun h => ?_) (fun h => ?_)
  · refine w_iconst (pc' := 17) dX1_isRule_16 rfl (by decide) ?_
    -- at 17: .ireturn
    try simp (decide := true) only [au_1, nu_2, au_lt, nu_lt, aw_e, nw_e, au_s, au_n, nu_s, nu_n, au_au, nu_nu, au_nu]
    refine w_zreturn dX1_isRule_17 rfl (by first | exact Or.inl rfl | exact Or.inr rfl | omega) ?_
    exact h0 (by omega)
  · refine w_iload_n (pc' := 5) dX1_isRule_4 rfl rfl ?_
    refine w_aload_n (pc' := 6) dX1_isRule_5 rfl rfl ?_
    refine w_mgi 29 (pc' := 9) dX1_isRule_6 rfl fX1_238_1 rfl ?_
    -- at 9: .if_icmp .ge 7
    try simp (decide := true) only [au_1, nu_2, au_lt, nu_lt, aw_e, nw_e, au_s, au_n, nu_s, nu_n, au_au, nu_nu, au_nu]
    refine w_icmp_ge (pc' := 12) (tgt := 16) dX1_isRule_9 rfl rfl (fun g => ?_) (fun g => ?_)
    · refine w_iconst (pc' := 17) dX1_isRule_16 rfl (by decide) ?_
      -- at 17: .ireturn
      try simp (decide := true) only [au_1, nu_2, au_lt, nu_lt, aw_e, nw_e, au_s, au_n, nu_s, nu_n, au_au, nu_nu, au_nu]
      refine w_zreturn dX1_isRule_17 rfl (by first | exact Or.inl rfl | exact Or.inr rfl | omega) ?_
      exact h0 (by omega)
    · refine w_iconst (pc' := 13) dX1_isRule_12 rfl (by decide) ?_
      refine w_goto (tgt := 17) dX1_isRule_13 rfl ?_
      -- at 17: .ireturn
      try simp (decide := true) only [au_1, nu_2, au_lt, nu_lt, aw_e, nw_e, au_s, au_n, nu_s, nu_n, au_au, nu_nu, au_nu]
      refine w_zreturn dX1_isRule_17 rfl (by first | exact Or.inl rfl | exact Or.inr rfl | omega) ?_
      exact h1 (by omega) (by omega)
def sRule (σ : MS) (r c : Int) : MS := nu (au (au (au σ 26 (iset (σ.2 26) (σ.1 29) r)) 27 (iset (σ.2 27) (σ.1 29) c)) 28 (rfill (σ.2 28) (640 * σ.1 29) 640 (fun _ => 0))) 29 (σ.1 29 + 1)
def rulOk (σ : MS) (r c : Int) : Prop := σ.1 29 ≠ 8 ∧ (1 ≤ r ∧ r ≤ 4) ∧ 1 ≤ c ∧ c ≤ 4
theorem c_X1_rule {r c : Int} (hr : 0 ≤ σ.1 29 ∧ σ.1 29 ≤ 8) (h1 : rulOk σ r c → K (some (xI (σ.1 29))) (ov (sRule σ r c) G0)) (h0 : ¬ rulOk σ r c → K (some (xI (-1))) (ov σ G0)) : tvW mX1_rule d K 0 [some (xR mR), some (xI r), some (xI c), none] [] (ov σ G0) bc bs := by
  unfold rulOk at h0 h1
  have bad : ¬ (σ.1 29 ≠ 8 ∧ (1 ≤ r ∧ r ≤ 4) ∧ 1 ≤ c ∧ c ≤ 4) → tvW mX1_rule d K 29 [some (xR mR), some (xI r), some (xI c), none] [] (ov σ G0) bc bs := by
    intro q
    refine w_iconst (pc' := 30) dX1_rule_29 rfl (by decide) ?_
    -- at 30: .ireturn
    try simp (decide := true) only [au_1, nu_2, au_lt, nu_lt, aw_e, nw_e, au_s, au_n, nu_s, nu_n, au_au, nu_nu, au_nu]
    refine w_ireturn dX1_rule_30 rfl ?_
    exact h0 q
  refine w_aload_n (pc' := 1) dX1_rule_0 rfl rfl ?_
  refine w_mgi 29 (pc' := 4) dX1_rule_1 rfl fX1_238_1 rfl ?_
  refine w_bipush (pc' := 6) dX1_rule_4 rfl (by decide +kernel) (by decide) ?_
  refine w_icmp_eq (pc' := 9) (tgt := 29) dX1_rule_6 rfl rfl (fun g6 => by exact bad (by omega)) (fun g6 => ?_)
  refine w_iload_n (pc' := 10) dX1_rule_9 rfl rfl ?_
  refine w_iconst (pc' := 11) dX1_rule_10 rfl (by decide) ?_
  refine w_icmp_lt (pc' := 14) (tgt := 29) dX1_rule_11 rfl rfl (fun g11 => by exact bad (by omega)) (fun g11 => ?_)
  refine w_iload_n (pc' := 15) dX1_rule_14 rfl rfl ?_
  refine w_iconst (pc' := 16) dX1_rule_15 rfl (by decide) ?_
  refine w_icmp_gt (pc' := 19) (tgt := 29) dX1_rule_16 rfl rfl (fun g16 => by exact bad (by omega)) (fun g16 => ?_)
  refine w_iload_n (pc' := 20) dX1_rule_19 rfl rfl ?_
  refine w_iconst (pc' := 21) dX1_rule_20 rfl (by decide) ?_
  refine w_icmp_lt (pc' := 24) (tgt := 29) dX1_rule_21 rfl rfl (fun g21 => by exact bad (by omega)) (fun g21 => ?_)
  refine w_iload_n (pc' := 25) dX1_rule_24 rfl rfl ?_
  refine w_iconst (pc' := 26) dX1_rule_25 rfl (by decide) ?_
  refine w_icmp_le (pc' := 29) (tgt := 31) dX1_rule_26 rfl rfl (fun g26 => ?_) (fun g26 => by exact bad (by omega))
  -- at 31: .aload_n 0
  have h1 := h1 (by omega)
  unfold sRule at h1
  refine w_aload_n (pc' := 32) dX1_rule_31 rfl rfl ?_
  refine w_mga 26 (pc' := 35) dX1_rule_32 rfl fX1_64_1 rfl ?_
  refine w_aload_n (pc' := 36) dX1_rule_35 rfl rfl ?_
  refine w_mgi 29 (pc' := 39) dX1_rule_36 rfl fX1_238_1 rfl ?_
  refine w_iload_n (pc' := 40) dX1_rule_39 rfl rfl ?_
  refine w_aui (pc' := 41) dX1_rule_40 rfl rfl (by first | omega | (simp (decide := true) only [au_1, nu_2, au_lt, nu_lt, aw_e, nw_e, au_s, au_n, nu_s, nu_n, au_au, nu_nu, au_nu]; omega)) (by first | omega | (simp (decide := true) only [au_1, nu_2, au_lt, nu_lt, aw_e, nw_e, au_s, au_n, nu_s, nu_n, au_au, nu_nu, au_nu]; omega)) ?_
  try simp (decide := true) only [au_1, nu_2, au_lt, nu_lt, aw_e, nw_e, au_s, au_n, nu_s, nu_n, au_au, nu_nu, au_nu]
  refine w_aload_n (pc' := 42) dX1_rule_41 rfl rfl ?_
  refine w_mga 27 (pc' := 45) dX1_rule_42 rfl fX1_67_1 rfl ?_
  refine w_aload_n (pc' := 46) dX1_rule_45 rfl rfl ?_
  refine w_mgi 29 (pc' := 49) dX1_rule_46 rfl fX1_238_1 rfl ?_
  refine w_iload_n (pc' := 50) dX1_rule_49 rfl rfl ?_
  refine w_aui (pc' := 51) dX1_rule_50 rfl rfl (by first | omega | (simp (decide := true) only [au_1, nu_2, au_lt, nu_lt, aw_e, nw_e, au_s, au_n, nu_s, nu_n, au_au, nu_nu, au_nu]; omega)) (by first | omega | (simp (decide := true) only [au_1, nu_2, au_lt, nu_lt, aw_e, nw_e, au_s, au_n, nu_s, nu_n, au_au, nu_nu, au_nu]; omega)) ?_
  try simp (decide := true) only [au_1, nu_2, au_lt, nu_lt, aw_e, nw_e, au_s, au_n, nu_s, nu_n, au_au, nu_nu, au_nu]
  refine w_iconst (pc' := 52) dX1_rule_51 rfl (by decide) ?_
  refine w_ist3 (pc' := 53) dX1_rule_52 rfl rfl ?_
  -- at 53: .iload_n 3
  try simp (decide := true) only [au_1, nu_2, au_lt, nu_lt, aw_e, nw_e, au_s, au_n, nu_s, nu_n, au_au, nu_nu, au_nu]
  refine w_ms (τ := au (au (au σ 26 (iset (σ.2 26) (σ.1 29) r)) 27 (iset (σ.2 27) (σ.1 29) c)) 28 (rfill (σ.2 28) (640 * σ.1 29) 0 (fun _ => 0))) ?_ ?_
  · rw [rfill_0]; exact au_id.symm
  refine up (T := fun k => tvW mX1_rule d K 53 [some (xR mR), some (xI r), some (xI c), some (xI k)] [] (ov (au (au (au σ 26 (iset (σ.2 26) (σ.1 29) r)) 27 (iset (σ.2 27) (σ.1 29) c)) 28 (rfill (σ.2 28) (640 * σ.1 29) k (fun _ => 0))) G0) bc bs) (a := 0) 640 (by omega) ?_ (fun k k0 k1 ih => ?_)
  · refine w_iload_n (pc' := 54) dX1_rule_53 rfl rfl ?_
    refine w_sipush (pc' := 57) dX1_rule_54 rfl (by decide +kernel) (by decide) ?_
    -- at 57: .if_icmp .ge 25
    try simp (decide := true) only [au_1, nu_2, au_lt, nu_lt, aw_e, nw_e, au_s, au_n, nu_s, nu_n, au_au, nu_nu, au_nu]
    refine w_icmp_ge (pc' := 60) (tgt := 82) dX1_rule_57 rfl rfl (fun h_ => ?_) (fun h_ => False.elim (by first | omega | (simp (decide := true) only [au_1, nu_2, au_lt, nu_lt, aw_e, nw_e, au_s, au_n, nu_s, nu_n, au_au, nu_nu, au_nu] at h_; omega)))
    refine w_aload_n (pc' := 83) dX1_rule_82 rfl rfl ?_
    refine w_dup (pc' := 84) dX1_rule_83 rfl rfl ?_
    refine w_mgi 29 (pc' := 87) dX1_rule_84 rfl fX1_238_1 rfl ?_
    refine w_iconst (pc' := 88) dX1_rule_87 rfl (by decide) ?_
    refine w_iadd (pc' := 89) dX1_rule_88 rfl ⟨by first | omega | (simp (decide := true) only [au_1, nu_2, au_lt, nu_lt, aw_e, nw_e, au_s, au_n, nu_s, nu_n, au_au, nu_nu, au_nu]; omega), by first | omega | (simp (decide := true) only [au_1, nu_2, au_lt, nu_lt, aw_e, nw_e, au_s, au_n, nu_s, nu_n, au_au, nu_nu, au_nu]; omega)⟩ ?_
    refine w_nup 29 (pc' := 92) dX1_rule_89 rfl pX1_238_1 rfl trivial ?_
    try simp (decide := true) only [au_1, nu_2, au_lt, nu_lt, aw_e, nw_e, au_s, au_n, nu_s, nu_n, au_au, nu_nu, au_nu]
    refine w_aload_n (pc' := 93) dX1_rule_92 rfl rfl ?_
    refine w_mgi 29 (pc' := 96) dX1_rule_93 rfl fX1_238_1 rfl ?_
    refine w_iconst (pc' := 97) dX1_rule_96 rfl (by decide) ?_
    refine w_isub (pc' := 98) dX1_rule_97 rfl ⟨by first | omega | (simp (decide := true) only [au_1, nu_2, au_lt, nu_lt, aw_e, nw_e, au_s, au_n, nu_s, nu_n, au_au, nu_nu, au_nu]; omega), by first | omega | (simp (decide := true) only [au_1, nu_2, au_lt, nu_lt, aw_e, nw_e, au_s, au_n, nu_s, nu_n, au_au, nu_nu, au_nu]; omega)⟩ ?_
    -- at 98: .ireturn
    try simp (decide := true) only [au_1, nu_2, au_lt, nu_lt, aw_e, nw_e, au_s, au_n, nu_s, nu_n, au_au, nu_nu, au_nu]
    refine w_ireturn dX1_rule_98 rfl ?_
    rw [show σ.1 29 + 1 - 1 = σ.1 29 by omega]
    exact h1
  · refine w_iload_n (pc' := 54) dX1_rule_53 rfl rfl ?_
    refine w_sipush (pc' := 57) dX1_rule_54 rfl (by decide +kernel) (by decide) ?_
    -- at 57: .if_icmp .ge 25
    try simp (decide := true) only [au_1, nu_2, au_lt, nu_lt, aw_e, nw_e, au_s, au_n, nu_s, nu_n, au_au, nu_nu, au_nu]
    refine w_icmp_ge (pc' := 60) (tgt := 82) dX1_rule_57 rfl rfl (fun h_ => False.elim (by first | omega | (simp (decide := true) only [au_1, nu_2, au_lt, nu_lt, aw_e, nw_e, au_s, au_n, nu_s, nu_n, au_au, nu_nu, au_nu] at h_; omega))) (fun h_ => ?_)
    refine w_aload_n (pc' := 61) dX1_rule_60 rfl rfl ?_
    refine w_mga 28 (pc' := 64) dX1_rule_61 rfl fX1_70_1 rfl ?_
    refine w_sipush (pc' := 67) dX1_rule_64 rfl (by decide +kernel) (by decide) ?_
    refine w_aload_n (pc' := 68) dX1_rule_67 rfl rfl ?_
    refine w_mgi 29 (pc' := 71) dX1_rule_68 rfl fX1_238_1 rfl ?_
    refine w_imul (pc' := 72) dX1_rule_71 rfl ⟨by first | omega | (simp (decide := true) only [au_1, nu_2, au_lt, nu_lt, aw_e, nw_e, au_s, au_n, nu_s, nu_n, au_au, nu_nu, au_nu]; omega), by first | omega | (simp (decide := true) only [au_1, nu_2, au_lt, nu_lt, aw_e, nw_e, au_s, au_n, nu_s, nu_n, au_au, nu_nu, au_nu]; omega)⟩ ?_
    refine w_iload_n (pc' := 73) dX1_rule_72 rfl rfl ?_
    refine w_iadd (pc' := 74) dX1_rule_73 rfl ⟨by first | omega | (simp (decide := true) only [au_1, nu_2, au_lt, nu_lt, aw_e, nw_e, au_s, au_n, nu_s, nu_n, au_au, nu_nu, au_nu]; omega), by first | omega | (simp (decide := true) only [au_1, nu_2, au_lt, nu_lt, aw_e, nw_e, au_s, au_n, nu_s, nu_n, au_au, nu_nu, au_nu]; omega)⟩ ?_
    refine w_iconst (pc' := 75) dX1_rule_74 rfl (by decide) ?_
    refine w_aui (pc' := 76) dX1_rule_75 rfl rfl (by first | omega | (simp (decide := true) only [au_1, nu_2, au_lt, nu_lt, aw_e, nw_e, au_s, au_n, nu_s, nu_n, au_au, nu_nu, au_nu]; omega)) (by first | omega | (simp (decide := true) only [au_1, nu_2, au_lt, nu_lt, aw_e, nw_e, au_s, au_n, nu_s, nu_n, au_au, nu_nu, au_nu]; omega)) ?_
    try simp (decide := true) only [au_1, nu_2, au_lt, nu_lt, aw_e, nw_e, au_s, au_n, nu_s, nu_n, au_au, nu_nu, au_nu]
    refine w_inc3 (pc' := 79) dX1_rule_76 rfl rfl ⟨by first | omega | (simp (decide := true) only [au_1, nu_2, au_lt, nu_lt, aw_e, nw_e, au_s, au_n, nu_s, nu_n, au_au, nu_nu, au_nu]; omega), by first | omega | (simp (decide := true) only [au_1, nu_2, au_lt, nu_lt, aw_e, nw_e, au_s, au_n, nu_s, nu_n, au_au, nu_nu, au_nu]; omega)⟩ ?_
    refine w_goto (tgt := 53) dX1_rule_79 rfl ?_
    -- at 53: .iload_n 3
    try simp (decide := true) only [au_1, nu_2, au_lt, nu_lt, aw_e, nw_e, au_s, au_n, nu_s, nu_n, au_au, nu_nu, au_nu]
    refine w_ms ?_ ih
    congr 1
    exact rfill_s' k0 rfl rfl
def becOk (σ : MS) (r k i j o m : Int) : Prop := (0 ≤ r ∧ r < σ.1 29) ∧ (0 ≤ k ∧ k < σ.1 5) ∧ (0 ≤ i ∧ i < σ.2 26 r) ∧ (0 ≤ j ∧ j < σ.2 27 r) ∧ (o = -1 ∨ (0 ≤ o ∧ o < σ.1 5) ∧ 0 ≤ m ∧ m < 8)
def qok (σ : MS) : Prop := (0 ≤ σ.1 29 ∧ σ.1 29 ≤ 8) ∧ ∀ r, 0 ≤ r → r < σ.1 29 → (1 ≤ σ.2 26 r ∧ σ.2 26 r ≤ 4) ∧ (1 ≤ σ.2 27 r ∧ σ.2 27 r ≤ 4) ∧ ∀ k i j, 0 ≤ k → k < 40 → 0 ≤ i → i < 4 → 0 ≤ j → j < 4 → isC (σ.1 5) (σ.2 28 (640 * r + 16 * k + 4 * i + j)) ∧ (0 ≤ σ.2 28 (640 * r + 16 * k + 4 * i + j) ∧ σ.2 28 (640 * r + 16 * k + 4 * i + j) < 65536) ∧ (¬ (i < σ.2 26 r ∧ j < σ.2 27 r) → σ.2 28 (640 * r + 16 * k + 4 * i + j) = 0)
theorem c_X1_becomes {r k i j o m : Int} (hK : kok σ) (hQ : qok σ) (h1 : becOk σ r k i j o m → K (some (xI 1)) (ov (au σ 28 (iset (σ.2 28) (640 * r + 16 * k + 4 * i + j) (pcel σ o m))) G0)) (h0 : ¬ becOk σ r k i j o m → K (some (xI 0)) (ov σ G0)) : tvW mX1_becomes (d + 1) K 0 [some (xR mR), some (xI r), some (xI k), some (xI i), some (xI j), some (xI o), some (xI m)] [] (ov σ G0) bc bs := by
  unfold becOk at h0 h1
  have hK1 := hK.1
  have hQ1 := hQ.1
  have bad : ¬ ((0 ≤ r ∧ r < σ.1 29) ∧ (0 ≤ k ∧ k < σ.1 5) ∧ (0 ≤ i ∧ i < σ.2 26 r) ∧ (0 ≤ j ∧ j < σ.2 27 r) ∧ (o = -1 ∨ (0 ≤ o ∧ o < σ.1 5) ∧ 0 ≤ m ∧ m < 8)) → tvW mX1_becomes (d + 1) K 69 [some (xR mR), some (xI r), some (xI k), some (xI i), some (xI j), some (xI o), some (xI m)] [] (ov σ G0) bc bs := by
    intro q
    refine w_iconst (pc' := 70) dX1_becomes_69 rfl (by decide) ?_
    -- at 70: .ireturn
    try simp (decide := true) only [au_1, nu_2, au_lt, nu_lt, aw_e, nw_e, au_s, au_n, nu_s, nu_n, au_au, nu_nu, au_nu]
    refine w_zreturn dX1_becomes_70 rfl (by first | exact Or.inl rfl | exact Or.inr rfl | omega) ?_
    exact h0 q
  have fin : ((0 ≤ r ∧ r < σ.1 29) ∧ (0 ≤ k ∧ k < σ.1 5) ∧ (0 ≤ i ∧ i < σ.2 26 r) ∧ (0 ≤ j ∧ j < σ.2 27 r) ∧ (o = -1 ∨ (0 ≤ o ∧ o < σ.1 5) ∧ 0 ≤ m ∧ m < 8)) → tvW mX1_becomes (d + 1) K 71 [some (xR mR), some (xI r), some (xI k), some (xI i), some (xI j), some (xI o), some (xI m)] [] (ov σ G0) bc bs := by
    intro q
    have h1 := h1 q
    obtain ⟨q1, q2, q3, q4, q5⟩ := q
    obtain ⟨s1, s2, -⟩ := hQ.2 r q1.1 q1.2
    unfold pcel at h1
    refine w_aload_n (pc' := 72) dX1_becomes_71 rfl rfl ?_
    refine w_mga 28 (pc' := 75) dX1_becomes_72 rfl fX1_70_1 rfl ?_
    refine w_sipush (pc' := 78) dX1_becomes_75 rfl (by decide +kernel) (by decide) ?_
    refine w_iload_n (pc' := 79) dX1_becomes_78 rfl rfl ?_
    refine w_imul (pc' := 80) dX1_becomes_79 rfl ⟨by first | omega | (simp (decide := true) only [au_1, nu_2, au_lt, nu_lt, aw_e, nw_e, au_s, au_n, nu_s, nu_n, au_au, nu_nu, au_nu]; omega), by first | omega | (simp (decide := true) only [au_1, nu_2, au_lt, nu_lt, aw_e, nw_e, au_s, au_n, nu_s, nu_n, au_au, nu_nu, au_nu]; omega)⟩ ?_
    refine w_bipush (pc' := 82) dX1_becomes_80 rfl (by decide +kernel) (by decide) ?_
    refine w_iload_n (pc' := 83) dX1_becomes_82 rfl rfl ?_
    refine w_imul (pc' := 84) dX1_becomes_83 rfl ⟨by first | omega | (simp (decide := true) only [au_1, nu_2, au_lt, nu_lt, aw_e, nw_e, au_s, au_n, nu_s, nu_n, au_au, nu_nu, au_nu]; omega), by first | omega | (simp (decide := true) only [au_1, nu_2, au_lt, nu_lt, aw_e, nw_e, au_s, au_n, nu_s, nu_n, au_au, nu_nu, au_nu]; omega)⟩ ?_
    refine w_iadd (pc' := 85) dX1_becomes_84 rfl ⟨by first | omega | (simp (decide := true) only [au_1, nu_2, au_lt, nu_lt, aw_e, nw_e, au_s, au_n, nu_s, nu_n, au_au, nu_nu, au_nu]; omega), by first | omega | (simp (decide := true) only [au_1, nu_2, au_lt, nu_lt, aw_e, nw_e, au_s, au_n, nu_s, nu_n, au_au, nu_nu, au_nu]; omega)⟩ ?_
    refine w_iconst (pc' := 86) dX1_becomes_85 rfl (by decide) ?_
    refine w_iload_n (pc' := 87) dX1_becomes_86 rfl rfl ?_
    refine w_imul (pc' := 88) dX1_becomes_87 rfl ⟨by first | omega | (simp (decide := true) only [au_1, nu_2, au_lt, nu_lt, aw_e, nw_e, au_s, au_n, nu_s, nu_n, au_au, nu_nu, au_nu]; omega), by first | omega | (simp (decide := true) only [au_1, nu_2, au_lt, nu_lt, aw_e, nw_e, au_s, au_n, nu_s, nu_n, au_au, nu_nu, au_nu]; omega)⟩ ?_
    refine w_iadd (pc' := 89) dX1_becomes_88 rfl ⟨by first | omega | (simp (decide := true) only [au_1, nu_2, au_lt, nu_lt, aw_e, nw_e, au_s, au_n, nu_s, nu_n, au_au, nu_nu, au_nu]; omega), by first | omega | (simp (decide := true) only [au_1, nu_2, au_lt, nu_lt, aw_e, nw_e, au_s, au_n, nu_s, nu_n, au_au, nu_nu, au_nu]; omega)⟩ ?_
    refine w_iload (pc' := 91) dX1_becomes_89 rfl rfl ?_
    refine w_iadd (pc' := 92) dX1_becomes_91 rfl ⟨by first | omega | (simp (decide := true) only [au_1, nu_2, au_lt, nu_lt, aw_e, nw_e, au_s, au_n, nu_s, nu_n, au_au, nu_nu, au_nu]; omega), by first | omega | (simp (decide := true) only [au_1, nu_2, au_lt, nu_lt, aw_e, nw_e, au_s, au_n, nu_s, nu_n, au_au, nu_nu, au_nu]; omega)⟩ ?_
    refine w_iload (pc' := 94) dX1_becomes_92 rfl rfl ?_
    refine w_iconst (pc' := 95) dX1_becomes_94 rfl (by decide) ?_
    -- at 95: .if_icmp .ne 7
    try simp (decide := true) only [au_1, nu_2, au_lt, nu_lt, aw_e, nw_e, au_s, au_n, nu_s, nu_n, au_au, nu_nu, au_nu]
    refine w_icmp_ne (pc' := 98) (tgt := 102) dX1_becomes_95 rfl rfl (fun g => ?_) (fun g => ?_)
    · obtain ⟨q6, q7⟩ : (0 ≤ o ∧ o < σ.1 5) ∧ 0 ≤ m ∧ m < 8 := by omega
      obtain ⟨-, ht, -⟩ := hK.2 o q6.1 q6.2
      rw [if_neg g] at h1
      refine w_iload (pc' := 104) dX1_becomes_102 rfl rfl ?_
      refine w_aload_n (pc' := 105) dX1_becomes_104 rfl rfl ?_
      refine w_iload (pc' := 107) dX1_becomes_105 rfl rfl ?_
      refine w_iload (pc' := 109) dX1_becomes_107 rfl rfl ?_
      -- at 109: .invokevirtual 148
      try simp (decide := true) only [au_1, nu_2, au_lt, nu_lt, aw_e, nw_e, au_s, au_n, nu_s, nu_n, au_au, nu_nu, au_nu]
      refine w_callV2 (pc' := 112) (mc := 0) (ms := 0) dX1_becomes_109 rfl tX1_lies q1274 rfl rfl qs40 q1272 ov_o rfl (Nat.le_of_ble_eq_true rfl) (Nat.le_of_ble_eq_true rfl) ?_
      refine c_X1_lies ⟨q6.1, by omega⟩ q7 ht ?_
      refine w_p1 ?_
      refine w_iconst (pc' := 113) dX1_becomes_112 rfl (by decide) ?_
      -- at 113: .invokestatic 166
      try simp (decide := true) only [au_1, nu_2, au_lt, nu_lt, aw_e, nw_e, au_s, au_n, nu_s, nu_n, au_au, nu_nu, au_nu]
      refine w_callS3 (pc' := 116) (mc := 0) (ms := 0) dX1_becomes_113 rfl tX1_cell q1329 q1328 rfl (Nat.le_of_ble_eq_true rfl) (Nat.le_of_ble_eq_true rfl) ?_
      refine c_X1_cell ⟨q6.1, by omega⟩ (lie_r ht q7.1 q7.2) ⟨by omega, by omega⟩ ?_
      refine w_p1 ?_
      refine w_aui (pc' := 117) dX1_becomes_116 rfl rfl (by first | omega | (simp (decide := true) only [au_1, nu_2, au_lt, nu_lt, aw_e, nw_e, au_s, au_n, nu_s, nu_n, au_au, nu_nu, au_nu]; omega)) (by first | omega | (simp (decide := true) only [au_1, nu_2, au_lt, nu_lt, aw_e, nw_e, au_s, au_n, nu_s, nu_n, au_au, nu_nu, au_nu]; omega)) ?_
      try simp (decide := true) only [au_1, nu_2, au_lt, nu_lt, aw_e, nw_e, au_s, au_n, nu_s, nu_n, au_au, nu_nu, au_nu]
      refine w_iconst (pc' := 118) dX1_becomes_117 rfl (by decide) ?_
      -- at 118: .ireturn
      try simp (decide := true) only [au_1, nu_2, au_lt, nu_lt, aw_e, nw_e, au_s, au_n, nu_s, nu_n, au_au, nu_nu, au_nu]
      refine w_zreturn dX1_becomes_118 rfl (by first | exact Or.inl rfl | exact Or.inr rfl | omega) ?_
      exact h1
    · rw [if_pos g] at h1
      refine w_iconst (pc' := 99) dX1_becomes_98 rfl (by decide) ?_
      refine w_goto (tgt := 116) dX1_becomes_99 rfl ?_
      refine w_aui (pc' := 117) dX1_becomes_116 rfl rfl (by first | omega | (simp (decide := true) only [au_1, nu_2, au_lt, nu_lt, aw_e, nw_e, au_s, au_n, nu_s, nu_n, au_au, nu_nu, au_nu]; omega)) (by first | omega | (simp (decide := true) only [au_1, nu_2, au_lt, nu_lt, aw_e, nw_e, au_s, au_n, nu_s, nu_n, au_au, nu_nu, au_nu]; omega)) ?_
      try simp (decide := true) only [au_1, nu_2, au_lt, nu_lt, aw_e, nw_e, au_s, au_n, nu_s, nu_n, au_au, nu_nu, au_nu]
      refine w_iconst (pc' := 118) dX1_becomes_117 rfl (by decide) ?_
      -- at 118: .ireturn
      try simp (decide := true) only [au_1, nu_2, au_lt, nu_lt, aw_e, nw_e, au_s, au_n, nu_s, nu_n, au_au, nu_nu, au_nu]
      refine w_zreturn dX1_becomes_118 rfl (by first | exact Or.inl rfl | exact Or.inr rfl | omega) ?_
      exact h1
  refine w_aload_n (pc' := 1) dX1_becomes_0 rfl rfl ?_
  refine w_iload_n (pc' := 2) dX1_becomes_1 rfl rfl ?_
  refine w_callV1 (pc' := 5) (mc := 0) (ms := 0) dX1_becomes_2 rfl tX1_isRule q1411 rfl rfl qs55 q1409 ov_o rfl (Nat.le_of_ble_eq_true rfl) (Nat.le_of_ble_eq_true rfl) ?_
  refine c_X1_isRule  (fun g2a g2b => w_p1 ?_) (fun g2 => w_p1 ?_)
  rotate_left
  · refine w_if_eq (pc' := 8) (tgt := 69) dX1_becomes_5 rfl rfl (fun h_ => ?_) (fun h_ => False.elim (by omega))
    exact bad (by omega)
  refine w_if_eq (pc' := 8) (tgt := 69) dX1_becomes_5 rfl rfl (fun h_ => False.elim (by omega)) (fun h_ => ?_)
  refine w_aload_n (pc' := 9) dX1_becomes_8 rfl rfl ?_
  refine w_iload_n (pc' := 10) dX1_becomes_9 rfl rfl ?_
  refine w_callV1 (pc' := 13) (mc := 0) (ms := 0) dX1_becomes_10 rfl tX1_isKind q1270 rfl rfl qs39 q1268 ov_o rfl (Nat.le_of_ble_eq_true rfl) (Nat.le_of_ble_eq_true rfl) ?_
  refine c_X1_isKind  (fun g10a g10b => w_p1 ?_) (fun g10 => w_p1 ?_)
  rotate_left
  · refine w_if_eq (pc' := 16) (tgt := 69) dX1_becomes_13 rfl rfl (fun h_ => ?_) (fun h_ => False.elim (by omega))
    exact bad (by omega)
  refine w_if_eq (pc' := 16) (tgt := 69) dX1_becomes_13 rfl rfl (fun h_ => False.elim (by omega)) (fun h_ => ?_)
  refine w_iload_n (pc' := 17) dX1_becomes_16 rfl rfl ?_
  refine w_if_lt (pc' := 20) (tgt := 69) dX1_becomes_17 rfl rfl (fun g17 => by exact bad (by omega)) (fun g17 => ?_)
  refine w_iload_n (pc' := 21) dX1_becomes_20 rfl rfl ?_
  refine w_aload_n (pc' := 22) dX1_becomes_21 rfl rfl ?_
  refine w_mga 26 (pc' := 25) dX1_becomes_22 rfl fX1_64_1 rfl ?_
  refine w_iload_n (pc' := 26) dX1_becomes_25 rfl rfl ?_
  refine w_mild (pc' := 27) dX1_becomes_26 rfl rfl (by first | omega | (simp (decide := true) only [au_1, nu_2, au_lt, nu_lt, aw_e, nw_e, au_s, au_n, nu_s, nu_n, au_au, nu_nu, au_nu]; omega)) (by first | omega | (simp (decide := true) only [au_1, nu_2, au_lt, nu_lt, aw_e, nw_e, au_s, au_n, nu_s, nu_n, au_au, nu_nu, au_nu]; omega)) ?_
  refine w_icmp_ge (pc' := 30) (tgt := 69) dX1_becomes_27 rfl rfl (fun g27 => by exact bad (by omega)) (fun g27 => ?_)
  refine w_iload (pc' := 32) dX1_becomes_30 rfl rfl ?_
  refine w_if_lt (pc' := 35) (tgt := 69) dX1_becomes_32 rfl rfl (fun g32 => by exact bad (by omega)) (fun g32 => ?_)
  refine w_iload (pc' := 37) dX1_becomes_35 rfl rfl ?_
  refine w_aload_n (pc' := 38) dX1_becomes_37 rfl rfl ?_
  refine w_mga 27 (pc' := 41) dX1_becomes_38 rfl fX1_67_1 rfl ?_
  refine w_iload_n (pc' := 42) dX1_becomes_41 rfl rfl ?_
  refine w_mild (pc' := 43) dX1_becomes_42 rfl rfl (by first | omega | (simp (decide := true) only [au_1, nu_2, au_lt, nu_lt, aw_e, nw_e, au_s, au_n, nu_s, nu_n, au_au, nu_nu, au_nu]; omega)) (by first | omega | (simp (decide := true) only [au_1, nu_2, au_lt, nu_lt, aw_e, nw_e, au_s, au_n, nu_s, nu_n, au_au, nu_nu, au_nu]; omega)) ?_
  refine w_icmp_ge (pc' := 46) (tgt := 69) dX1_becomes_43 rfl rfl (fun g43 => by exact bad (by omega)) (fun g43 => ?_)
  -- at 46: .iload 5
  refine w_iload (pc' := 48) dX1_becomes_46 rfl rfl ?_
  refine w_iconst (pc' := 49) dX1_becomes_48 rfl (by decide) ?_
  -- at 49: .if_icmp .eq 22
  try simp (decide := true) only [au_1, nu_2, au_lt, nu_lt, aw_e, nw_e, au_s, au_n, nu_s, nu_n, au_au, nu_nu, au_nu]
  refine w_icmp_eq (pc' := 52) (tgt := 71) dX1_becomes_49 rfl rfl (fun g => ?_) (fun g => ?_)
  · exact fin (by omega)
  · refine w_aload_n (pc' := 53) dX1_becomes_52 rfl rfl ?_
    refine w_iload (pc' := 55) dX1_becomes_53 rfl rfl ?_
    refine w_callV1 (pc' := 58) (mc := 0) (ms := 0) dX1_becomes_55 rfl tX1_isKind q1270 rfl rfl qs39 q1268 ov_o rfl (Nat.le_of_ble_eq_true rfl) (Nat.le_of_ble_eq_true rfl) ?_
    refine c_X1_isKind  (fun g55a g55b => w_p1 ?_) (fun g55 => w_p1 ?_)
    rotate_left
    · refine w_if_eq (pc' := 61) (tgt := 69) dX1_becomes_58 rfl rfl (fun h_ => ?_) (fun h_ => False.elim (by omega))
      exact bad (by omega)
    refine w_if_eq (pc' := 61) (tgt := 69) dX1_becomes_58 rfl rfl (fun h_ => False.elim (by omega)) (fun h_ => ?_)
    refine w_iload (pc' := 63) dX1_becomes_61 rfl rfl ?_
    refine w_callS1 (pc' := 66) (mc := 0) (ms := 0) dX1_becomes_63 rfl tX1_isMove q1259 q1258 rfl (Nat.le_of_ble_eq_true rfl) (Nat.le_of_ble_eq_true rfl) ?_
    refine c_X1_isMove  (fun g63a g63b => w_p1 ?_) (fun g63 => w_p1 ?_)
    rotate_left
    · refine w_if_ne (pc' := 69) (tgt := 71) dX1_becomes_66 rfl rfl (fun h_ => False.elim (by omega)) (fun h_ => ?_)
      exact bad (by omega)
    refine w_if_ne (pc' := 69) (tgt := 71) dX1_becomes_66 rfl rfl (fun h_ => ?_) (fun h_ => False.elim (by omega))
    -- at 71: .aload_n 0
    exact fin (by omega)
end
