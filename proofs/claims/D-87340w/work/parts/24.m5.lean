set_option maxRecDepth 10000
noncomputable def ic (p : Prop) (a b : Int) : Int := @ite Int p (Classical.propDecidable p) a b
theorem ic_t {p : Prop} {a b : Int} (h : p) : ic p a b = a := @if_pos p (Classical.propDecidable p) h _ _ _
theorem ic_f {p : Prop} {a b : Int} (h : ¬ p) : ic p a b = b := @if_neg p (Classical.propDecidable p) h _ _ _
theorem rok_own {σ : MS} {p i : Int} (hr : rok σ) (hm : σ.1 9 < 6000) (hrw : 0 ≤ rw_ σ p i ∧ rw_ σ p i < σ.1 9) : rok (sOwn σ p i) := by
  obtain ⟨⟨m1, m2⟩, hr⟩ := hr
  obtain ⟨l, o, c⟩ := hr _ hrw.1 hrw.2
  unfold rok
  simp (decide := true) only [sOwn, au_1, nu_2, au_lt, nu_lt, aw_e, nw_e, au_s, au_n, nu_s, nu_n, au_au, nu_nu, au_nu]
  refine ⟨⟨by omega, by omega⟩, fun r r0 r1 => ?_⟩
  by_cases h : r = σ.1 9
  · subst h
    simp only [iset_s]
    refine ⟨l, o, fun k k0 k1 => ?_⟩
    rw [rfill_in (by omega) (by omega), show 60 * σ.1 9 + k - 60 * σ.1 9 + 60 * rw_ σ p i = 60 * rw_ σ p i + k by omega]
    exact c k k0 k1
  · obtain ⟨l2, o2, c2⟩ := hr r r0 (by omega)
    simp only [iset_n h]
    refine ⟨l2, o2, fun k k0 k1 => ?_⟩
    rw [rfill_out (by omega)]
    exact c2 k k0 k1
theorem rok_new {σ : MS} {len off : Int} (hr : rok σ) (hm : σ.1 9 < 6000) (hl : 0 ≤ len ∧ len ≤ 60) (ho : -30 ≤ off ∧ off ≤ 30) : rok (sNew σ len off) := by
  obtain ⟨⟨m1, m2⟩, hr⟩ := hr
  unfold rok
  simp (decide := true) only [sNew, au_1, nu_2, au_lt, nu_lt, aw_e, nw_e, au_s, au_n, nu_s, nu_n, au_au, nu_nu, au_nu]
  refine ⟨⟨by omega, by omega⟩, fun r r0 r1 => ?_⟩
  by_cases h : r = σ.1 9
  · subst h
    simp only [iset_s]
    refine ⟨hl, ho, fun k k0 k1 => ?_⟩
    rw [rfill_in (by omega) (by omega)]
    exact Or.inl rfl
  · obtain ⟨l2, o2, c2⟩ := hr r r0 (by omega)
    simp only [iset_n h]
    refine ⟨l2, o2, fun k k0 k1 => ?_⟩
    rw [rfill_out (by omega)]
    exact c2 k k0 k1
theorem rok_keep {σ : MS} {p : Int} (hr : rok σ) : rok (sKeep σ p) := hr
theorem pok_keep {σ : MS} {p : Int} (hr : pok σ) : pok (sKeep σ p) := hr
theorem rw_own {σ : MS} {p i q k : Int} : rw_ (sOwn σ p i) q k = if 60 * q + k = 60 * p + i then σ.1 9 else rw_ σ q k := rfl
theorem pok_own {σ : MS} {p i : Int} (h : pok σ) (hp : 0 ≤ p) (hi : 0 ≤ i ∧ i < σ.2 11 p) (hM : σ.2 11 p ≤ 60) (h0 : 0 ≤ σ.1 9) : pok (sOwn σ p i) := by
  obtain ⟨hp1, h⟩ := h
  unfold pok
  simp only [rw_own]
  simp (decide := true) only [sOwn, au_1, nu_2, au_lt, nu_lt, aw_e, nw_e, au_s, au_n, nu_s, nu_n, au_au, nu_nu, au_nu]
  refine ⟨hp1, fun q q0 q1 => ?_⟩
  obtain ⟨hm, hr⟩ := h q q0 q1
  refine ⟨hm, fun k k0 k1 => ?_⟩
  have := hr k k0 k1
  split <;> omega
def sSet (σ : MS) (p i j c : Int) : MS := au (sOwn (sKeep σ p) p i) 8 (iset ((sOwn (sKeep σ p) p i).2 8) (60 * σ.1 9 + j - σ.2 7 (rw_ σ p i)) c)
def cdat (c w : Int) : Int := if w = 0 then (if c = 0 then -1 else kOf c) else if c = 0 then 0 else if w = 1 then mOf c else sOf c
noncomputable def aAt (σ : MS) (p i j w : Int) : Int := ic ((0 ≤ p ∧ p < σ.1 12) ∧ 0 ≤ w ∧ w ≤ 2) (ic (hs_ σ p i j) (cdat (ca_ σ p i j) w) (if w = 0 then -2 else 0)) (-1)
noncomputable def nRow (σ : MS) (r : Int) : Int := sm (fun q => sm (fun k => b1 (rw_ σ q k = r)) (σ.2 11 q)) (σ.1 12)
noncomputable def aRow (σ : MS) (p i w : Int) : Int := ic ((0 ≤ p ∧ p < σ.1 12) ∧ (0 ≤ i ∧ i < σ.2 11 p) ∧ 0 ≤ w ∧ w ≤ 2) (if w = 0 then σ.2 6 (rw_ σ p i) else if w = 1 then σ.2 7 (rw_ σ p i) else nRow σ (rw_ σ p i)) (-1)
def shr_ (σ : MS) (p i q k : Int) : Prop := (0 ≤ p ∧ p < σ.1 12) ∧ (0 ≤ q ∧ q < σ.1 12) ∧ (0 ≤ i ∧ i < σ.2 11 p) ∧ (0 ≤ k ∧ k < σ.2 11 q) ∧ rw_ σ p i = rw_ σ q k
section
variable {d : Nat} {K : Option XV → GH → Prop} {G0 G : GH} {bc bs : Nat} {σ : MS} {M : tv_M} {pc : Nat} {L : List (Option XV)} {st : List XV}
theorem c_X1_pattern (hp : 0 ≤ σ.1 12 ∧ σ.1 12 ≤ 16) (h1 : σ.1 12 < 16 → K (some (xI (σ.1 12))) (ov (nu (au σ 11 (iset (σ.2 11) (σ.1 12) 0)) 12 (σ.1 12 + 1)) G0)) (h0 : σ.1 12 = 16 → K (some (xI (-1))) (ov σ G0)) : tvW mX1_pattern d K 0 [some (xR mR)] [] (ov σ G0) bc bs := by
  refine w_aload_n (pc' := 1) dX1_pattern_0 rfl rfl ?_
  refine w_mgi 12 (pc' := 4) dX1_pattern_1 rfl fX1_169_1 rfl ?_
  refine w_bipush (pc' := 6) dX1_pattern_4 rfl (by decide +kernel) (by decide) ?_
  -- at 6: .if_icmp .ne 5
  try simp (decide := true) only [au_1, nu_2, au_lt, nu_lt, aw_e, nw_e, au_s, au_n, nu_s, nu_n, au_au, nu_nu, au_nu]
  refine w_icmp_ne (pc' := 9) (tgt := 11) dX1_pattern_6 rfl rfl (fun g => ?_) (fun g => ?_)
  · refine w_aload_n (pc' := 12) dX1_pattern_11 rfl rfl ?_
    refine w_mga 11 (pc' := 15) dX1_pattern_12 rfl fX1_40_1 rfl ?_
    refine w_aload_n (pc' := 16) dX1_pattern_15 rfl rfl ?_
    refine w_mgi 12 (pc' := 19) dX1_pattern_16 rfl fX1_169_1 rfl ?_
    refine w_iconst (pc' := 20) dX1_pattern_19 rfl (by decide) ?_
    refine w_aui (pc' := 21) dX1_pattern_20 rfl rfl (by first | omega | (simp (decide := true) only [au_1, nu_2, au_lt, nu_lt, aw_e, nw_e, au_s, au_n, nu_s, nu_n, au_au, nu_nu, au_nu]; omega)) (by first | omega | (simp (decide := true) only [au_1, nu_2, au_lt, nu_lt, aw_e, nw_e, au_s, au_n, nu_s, nu_n, au_au, nu_nu, au_nu]; omega)) ?_
    try simp (decide := true) only [au_1, nu_2, au_lt, nu_lt, aw_e, nw_e, au_s, au_n, nu_s, nu_n, au_au, nu_nu, au_nu]
    refine w_aload_n (pc' := 22) dX1_pattern_21 rfl rfl ?_
    refine w_dup (pc' := 23) dX1_pattern_22 rfl rfl ?_
    refine w_mgi 12 (pc' := 26) dX1_pattern_23 rfl fX1_169_1 rfl ?_
    refine w_iconst (pc' := 27) dX1_pattern_26 rfl (by decide) ?_
    refine w_iadd (pc' := 28) dX1_pattern_27 rfl ⟨by first | omega | (simp (decide := true) only [au_1, nu_2, au_lt, nu_lt, aw_e, nw_e, au_s, au_n, nu_s, nu_n, au_au, nu_nu, au_nu]; omega), by first | omega | (simp (decide := true) only [au_1, nu_2, au_lt, nu_lt, aw_e, nw_e, au_s, au_n, nu_s, nu_n, au_au, nu_nu, au_nu]; omega)⟩ ?_
    refine w_nup 12 (pc' := 31) dX1_pattern_28 rfl pX1_169_1 rfl trivial ?_
    try simp (decide := true) only [au_1, nu_2, au_lt, nu_lt, aw_e, nw_e, au_s, au_n, nu_s, nu_n, au_au, nu_nu, au_nu]
    refine w_aload_n (pc' := 32) dX1_pattern_31 rfl rfl ?_
    refine w_mgi 12 (pc' := 35) dX1_pattern_32 rfl fX1_169_1 rfl ?_
    refine w_iconst (pc' := 36) dX1_pattern_35 rfl (by decide) ?_
    refine w_isub (pc' := 37) dX1_pattern_36 rfl ⟨by first | omega | (simp (decide := true) only [au_1, nu_2, au_lt, nu_lt, aw_e, nw_e, au_s, au_n, nu_s, nu_n, au_au, nu_nu, au_nu]; omega), by first | omega | (simp (decide := true) only [au_1, nu_2, au_lt, nu_lt, aw_e, nw_e, au_s, au_n, nu_s, nu_n, au_au, nu_nu, au_nu]; omega)⟩ ?_
    -- at 37: .ireturn
    try simp (decide := true) only [au_1, nu_2, au_lt, nu_lt, aw_e, nw_e, au_s, au_n, nu_s, nu_n, au_au, nu_nu, au_nu]
    refine w_ireturn dX1_pattern_37 rfl ?_
    rw [show σ.1 12 + 1 - 1 = σ.1 12 by omega]
    exact h1 (by omega)
  · refine w_iconst (pc' := 10) dX1_pattern_9 rfl (by decide) ?_
    -- at 10: .ireturn
    try simp (decide := true) only [au_1, nu_2, au_lt, nu_lt, aw_e, nw_e, au_s, au_n, nu_s, nu_n, au_au, nu_nu, au_nu]
    refine w_ireturn dX1_pattern_10 rfl ?_
    exact h0 (by omega)
theorem c_X1_remove {p i : Int} (hP : pok σ) (hU : uok σ) (h1 : (0 ≤ p ∧ p < σ.1 12) ∧ 0 ≤ i ∧ i < σ.2 11 p → K (some (xI 1)) (ov (sTake (sKeep σ p) p i) G0)) (h0 : ¬ ((0 ≤ p ∧ p < σ.1 12) ∧ 0 ≤ i ∧ i < σ.2 11 p) → K (some (xI 0)) (ov σ G0)) : tvW mX1_remove (d + 2) K 0 [some (xR mR), some (xI p), some (xI i)] [] (ov σ G0) bc bs := by
  obtain ⟨hp1, hP⟩ := hP
  have bad : ¬ ((0 ≤ p ∧ p < σ.1 12) ∧ 0 ≤ i ∧ i < σ.2 11 p) → tvW mX1_remove (d + 2) K 22 [some (xR mR), some (xI p), some (xI i)] [] (ov σ G0) bc bs := by
    intro q
    refine w_iconst (pc' := 23) dX1_remove_22 rfl (by decide) ?_
    -- at 23: .ireturn
    try simp (decide := true) only [au_1, nu_2, au_lt, nu_lt, aw_e, nw_e, au_s, au_n, nu_s, nu_n, au_au, nu_nu, au_nu]
    refine w_zreturn dX1_remove_23 rfl (by first | exact Or.inl rfl | exact Or.inr rfl | omega) ?_
    exact h0 q
  refine w_aload_n (pc' := 1) dX1_remove_0 rfl rfl ?_
  refine w_iload_n (pc' := 2) dX1_remove_1 rfl rfl ?_
  refine w_callV1 (pc' := 5) (mc := 0) (ms := 0) dX1_remove_2 rfl tX1_isPattern q1294 rfl rfl qs42 q1292 ov_o rfl (Nat.le_of_ble_eq_true rfl) (Nat.le_of_ble_eq_true rfl) ?_
  refine c_X1_isPattern  (fun g2a g2b => w_p1 ?_) (fun g2 => w_p1 ?_)
  rotate_left
  · refine w_if_eq (pc' := 8) (tgt := 22) dX1_remove_5 rfl rfl (fun h_ => ?_) (fun h_ => False.elim (by omega))
    exact bad (by omega)
  refine w_if_eq (pc' := 8) (tgt := 22) dX1_remove_5 rfl rfl (fun h_ => False.elim (by omega)) (fun h_ => ?_)
  refine w_iload_n (pc' := 9) dX1_remove_8 rfl rfl ?_
  refine w_if_lt (pc' := 12) (tgt := 22) dX1_remove_9 rfl rfl (fun g9 => by exact bad (by omega)) (fun g9 => ?_)
  refine w_iload_n (pc' := 13) dX1_remove_12 rfl rfl ?_
  refine w_aload_n (pc' := 14) dX1_remove_13 rfl rfl ?_
  refine w_mga 11 (pc' := 17) dX1_remove_14 rfl fX1_40_1 rfl ?_
  refine w_iload_n (pc' := 18) dX1_remove_17 rfl rfl ?_
  refine w_mild (pc' := 19) dX1_remove_18 rfl rfl (by first | omega | (simp (decide := true) only [au_1, nu_2, au_lt, nu_lt, aw_e, nw_e, au_s, au_n, nu_s, nu_n, au_au, nu_nu, au_nu]; omega)) (by first | omega | (simp (decide := true) only [au_1, nu_2, au_lt, nu_lt, aw_e, nw_e, au_s, au_n, nu_s, nu_n, au_au, nu_nu, au_nu]; omega)) ?_
  refine w_icmp_lt (pc' := 22) (tgt := 24) dX1_remove_19 rfl rfl (fun g19 => ?_) (fun g19 => by exact bad (by omega))
  -- at 24: .aload_n 0
  have hM := (hP p g2a g2b).1
  refine w_aload_n (pc' := 25) dX1_remove_24 rfl rfl ?_
  refine w_iload_n (pc' := 26) dX1_remove_25 rfl rfl ?_
  -- at 26: .invokevirtual 190
  try simp (decide := true) only [au_1, nu_2, au_lt, nu_lt, aw_e, nw_e, au_s, au_n, nu_s, nu_n, au_au, nu_nu, au_nu]
  refine w_callV1 (pc' := 29) (mc := 0) (ms := 0) dX1_remove_26 rfl tX1_keep q1298 rfl rfl qs43 q1296 ov_o rfl (Nat.le_of_ble_eq_true rfl) (Nat.le_of_ble_eq_true rfl) ?_
  refine c_X1_keep ⟨hU.1, hU.2.1⟩ ⟨g2a, by omega⟩ hM ?_
  refine w_p0 ?_
  refine w_aload_n (pc' := 30) dX1_remove_29 rfl rfl ?_
  refine w_iload_n (pc' := 31) dX1_remove_30 rfl rfl ?_
  refine w_iload_n (pc' := 32) dX1_remove_31 rfl rfl ?_
  -- at 32: .invokevirtual 197
  try simp (decide := true) only [au_1, nu_2, au_lt, nu_lt, aw_e, nw_e, au_s, au_n, nu_s, nu_n, au_au, nu_nu, au_nu]
  refine w_callV2 (pc' := 35) (mc := 0) (ms := 0) dX1_remove_32 rfl tX1_takeRow q1314 rfl rfl qs46 q1312 ov_o rfl (Nat.le_of_ble_eq_true rfl) (Nat.le_of_ble_eq_true rfl) ?_
  refine c_X1_takeRow ⟨g2a, by omega⟩ hM.2 ⟨by omega, g19⟩ ?_
  refine w_p0 ?_
  refine w_iconst (pc' := 36) dX1_remove_35 rfl (by decide) ?_
  -- at 36: .ireturn
  try simp (decide := true) only [au_1, nu_2, au_lt, nu_lt, aw_e, nw_e, au_s, au_n, nu_s, nu_n, au_au, nu_nu, au_nu]
  refine w_zreturn dX1_remove_36 rfl (by first | exact Or.inl rfl | exact Or.inr rfl | omega) ?_
  exact h1 ⟨⟨g2a, g2b⟩, by omega, g19⟩
/-- the rows behind a place go one on, and one comes there: the loop that insert and move share -/
theorem sPutRow_l {σ : MS} {p i r : Int} : au (au σ 10 (iset (rfill (σ.2 10) (60 * p + i + 1) (σ.2 11 p - i) (fun q => σ.2 10 (q - 1))) (60 * p + i) r)) 11 (iset (σ.2 11) p (σ.2 11 p + 1)) = sPutRow σ p i r := rfl
theorem c_X1_insert_t {p i len off : Int} (hp : 0 ≤ p ∧ p < 16) (hM : 0 ≤ σ.2 11 p ∧ σ.2 11 p < 60) (hi : 0 ≤ i ∧ i ≤ σ.2 11 p) (hl : 0 ≤ len ∧ len ≤ 60) (hm : 0 ≤ σ.1 9 ∧ σ.1 9 < 6000) (h : K (some (xI 1)) (ov (sPutRow (sNew σ len off) p i (σ.1 9)) G0)) : tvW mX1_insert (d + 2) K 74 [some (xR mR), some (xI p), some (xI i), some (xI len), some (xI off), none] [] (ov σ G0) bc bs := by
  refine w_aload_n (pc' := 75) dX1_insert_74 rfl rfl ?_
  refine w_mga 11 (pc' := 78) dX1_insert_75 rfl fX1_40_1 rfl ?_
  refine w_iload_n (pc' := 79) dX1_insert_78 rfl rfl ?_
  refine w_mild (pc' := 80) dX1_insert_79 rfl rfl (by first | omega | (simp (decide := true) only [au_1, nu_2, au_lt, nu_lt, aw_e, nw_e, au_s, au_n, nu_s, nu_n, au_au, nu_nu, au_nu]; omega)) (by first | omega | (simp (decide := true) only [au_1, nu_2, au_lt, nu_lt, aw_e, nw_e, au_s, au_n, nu_s, nu_n, au_au, nu_nu, au_nu]; omega)) ?_
  refine w_ist5 (pc' := 82) dX1_insert_80 rfl rfl ?_
  -- at 82: .iload 5
  try simp (decide := true) only [au_1, nu_2, au_lt, nu_lt, aw_e, nw_e, au_s, au_n, nu_s, nu_n, au_au, nu_nu, au_nu]
  refine w_ms (τ := au σ 10 (rfill (σ.2 10) (60 * p + σ.2 11 p + 1) (σ.2 11 p - σ.2 11 p) (fun q => σ.2 10 (q - 1)))) ?_ ?_
  · rw [Int.sub_self, rfill_0]; exact au_id.symm
  refine dn (T := fun k => tvW mX1_insert (d + 2) K 82 [some (xR mR), some (xI p), some (xI i), some (xI len), some (xI off), some (xI k)] [] (ov (au σ 10 (rfill (σ.2 10) (60 * p + k + 1) (σ.2 11 p - k) (fun q => σ.2 10 (q - 1)))) G0) bc bs) i hi.2 ?_ (fun k h0 h1 ih => ?_)
  · refine w_iload (pc' := 84) dX1_insert_82 rfl rfl ?_
    refine w_iload_n (pc' := 85) dX1_insert_84 rfl rfl ?_
    -- at 85: .if_icmp .le 30
    try simp (decide := true) only [au_1, nu_2, au_lt, nu_lt, aw_e, nw_e, au_s, au_n, nu_s, nu_n, au_au, nu_nu, au_nu]
    refine w_icmp_le (pc' := 88) (tgt := 115) dX1_insert_85 rfl rfl (fun h_ => ?_) (fun h_ => False.elim (by first | omega | (simp (decide := true) only [au_1, nu_2, au_lt, nu_lt, aw_e, nw_e, au_s, au_n, nu_s, nu_n, au_au, nu_nu, au_nu] at h_; omega)))
    refine w_aload_n (pc' := 116) dX1_insert_115 rfl rfl ?_
    refine w_mga 10 (pc' := 119) dX1_insert_116 rfl fX1_37_1 rfl ?_
    refine w_bipush (pc' := 121) dX1_insert_119 rfl (by decide +kernel) (by decide) ?_
    refine w_iload_n (pc' := 122) dX1_insert_121 rfl rfl ?_
    refine w_imul (pc' := 123) dX1_insert_122 rfl ⟨by first | omega | (simp (decide := true) only [au_1, nu_2, au_lt, nu_lt, aw_e, nw_e, au_s, au_n, nu_s, nu_n, au_au, nu_nu, au_nu]; omega), by first | omega | (simp (decide := true) only [au_1, nu_2, au_lt, nu_lt, aw_e, nw_e, au_s, au_n, nu_s, nu_n, au_au, nu_nu, au_nu]; omega)⟩ ?_
    refine w_iload_n (pc' := 124) dX1_insert_123 rfl rfl ?_
    refine w_iadd (pc' := 125) dX1_insert_124 rfl ⟨by first | omega | (simp (decide := true) only [au_1, nu_2, au_lt, nu_lt, aw_e, nw_e, au_s, au_n, nu_s, nu_n, au_au, nu_nu, au_nu]; omega), by first | omega | (simp (decide := true) only [au_1, nu_2, au_lt, nu_lt, aw_e, nw_e, au_s, au_n, nu_s, nu_n, au_au, nu_nu, au_nu]; omega)⟩ ?_
    refine w_aload_n (pc' := 126) dX1_insert_125 rfl rfl ?_
    refine w_iload_n (pc' := 127) dX1_insert_126 rfl rfl ?_
    refine w_iload (pc' := 129) dX1_insert_127 rfl rfl ?_
    -- at 129: .invokevirtual 194
    try simp (decide := true) only [au_1, nu_2, au_lt, nu_lt, aw_e, nw_e, au_s, au_n, nu_s, nu_n, au_au, nu_nu, au_nu]
    refine w_callV2 (pc' := 132) (mc := 0) (ms := 0) dX1_insert_129 rfl tX1_newRow q1306 rfl rfl qs45 q1304 ov_o rfl (Nat.le_of_ble_eq_true rfl) (Nat.le_of_ble_eq_true rfl) ?_
    refine c_X1_newRow hm hl ?_
    refine w_p1 ?_
    simp (decide := true) only [sNew, au_1, nu_2, au_lt, nu_lt, aw_e, nw_e, au_s, au_n, nu_s, nu_n, au_au, nu_nu, au_nu]
    refine w_aui (pc' := 133) dX1_insert_132 rfl rfl (by first | omega | (simp (decide := true) only [au_1, nu_2, au_lt, nu_lt, aw_e, nw_e, au_s, au_n, nu_s, nu_n, au_au, nu_nu, au_nu]; omega)) (by first | omega | (simp (decide := true) only [au_1, nu_2, au_lt, nu_lt, aw_e, nw_e, au_s, au_n, nu_s, nu_n, au_au, nu_nu, au_nu]; omega)) ?_
    try simp (decide := true) only [au_1, nu_2, au_lt, nu_lt, aw_e, nw_e, au_s, au_n, nu_s, nu_n, au_au, nu_nu, au_nu]
    refine w_aload_n (pc' := 134) dX1_insert_133 rfl rfl ?_
    refine w_mga 11 (pc' := 137) dX1_insert_134 rfl fX1_40_1 rfl ?_
    refine w_iload_n (pc' := 138) dX1_insert_137 rfl rfl ?_
    refine w_dup2 (pc' := 139) dX1_insert_138 rfl rfl rfl ?_
    refine w_mild (pc' := 140) dX1_insert_139 rfl rfl (by first | omega | (simp (decide := true) only [au_1, nu_2, au_lt, nu_lt, aw_e, nw_e, au_s, au_n, nu_s, nu_n, au_au, nu_nu, au_nu]; omega)) (by first | omega | (simp (decide := true) only [au_1, nu_2, au_lt, nu_lt, aw_e, nw_e, au_s, au_n, nu_s, nu_n, au_au, nu_nu, au_nu]; omega)) ?_
    refine w_iconst (pc' := 141) dX1_insert_140 rfl (by decide) ?_
    refine w_iadd (pc' := 142) dX1_insert_141 rfl ⟨by first | omega | (simp (decide := true) only [au_1, nu_2, au_lt, nu_lt, aw_e, nw_e, au_s, au_n, nu_s, nu_n, au_au, nu_nu, au_nu]; omega), by first | omega | (simp (decide := true) only [au_1, nu_2, au_lt, nu_lt, aw_e, nw_e, au_s, au_n, nu_s, nu_n, au_au, nu_nu, au_nu]; omega)⟩ ?_
    refine w_aui (pc' := 143) dX1_insert_142 rfl rfl (by first | omega | (simp (decide := true) only [au_1, nu_2, au_lt, nu_lt, aw_e, nw_e, au_s, au_n, nu_s, nu_n, au_au, nu_nu, au_nu]; omega)) (by first | omega | (simp (decide := true) only [au_1, nu_2, au_lt, nu_lt, aw_e, nw_e, au_s, au_n, nu_s, nu_n, au_au, nu_nu, au_nu]; omega)) ?_
    try simp (decide := true) only [au_1, nu_2, au_lt, nu_lt, aw_e, nw_e, au_s, au_n, nu_s, nu_n, au_au, nu_nu, au_nu]
    refine w_iconst (pc' := 144) dX1_insert_143 rfl (by decide) ?_
    -- at 144: .ireturn
    try simp (decide := true) only [au_1, nu_2, au_lt, nu_lt, aw_e, nw_e, au_s, au_n, nu_s, nu_n, au_au, nu_nu, au_nu]
    refine w_zreturn dX1_insert_144 rfl (by first | exact Or.inl rfl | exact Or.inr rfl | omega) ?_
    simp (decide := true) only [sNew, sPutRow, au_1, nu_2, au_lt, nu_lt, aw_e, nw_e, au_s, au_n, nu_s, nu_n, au_au, nu_nu, au_nu] at h
    exact h
  · refine w_iload (pc' := 84) dX1_insert_82 rfl rfl ?_
    refine w_iload_n (pc' := 85) dX1_insert_84 rfl rfl ?_
    -- at 85: .if_icmp .le 30
    try simp (decide := true) only [au_1, nu_2, au_lt, nu_lt, aw_e, nw_e, au_s, au_n, nu_s, nu_n, au_au, nu_nu, au_nu]
    refine w_icmp_le (pc' := 88) (tgt := 115) dX1_insert_85 rfl rfl (fun h_ => False.elim (by first | omega | (simp (decide := true) only [au_1, nu_2, au_lt, nu_lt, aw_e, nw_e, au_s, au_n, nu_s, nu_n, au_au, nu_nu, au_nu] at h_; omega))) (fun h_ => ?_)
    refine w_aload_n (pc' := 89) dX1_insert_88 rfl rfl ?_
    refine w_mga 10 (pc' := 92) dX1_insert_89 rfl fX1_37_1 rfl ?_
    refine w_bipush (pc' := 94) dX1_insert_92 rfl (by decide +kernel) (by decide) ?_
    refine w_iload_n (pc' := 95) dX1_insert_94 rfl rfl ?_
    refine w_imul (pc' := 96) dX1_insert_95 rfl ⟨by first | omega | (simp (decide := true) only [au_1, nu_2, au_lt, nu_lt, aw_e, nw_e, au_s, au_n, nu_s, nu_n, au_au, nu_nu, au_nu]; omega), by first | omega | (simp (decide := true) only [au_1, nu_2, au_lt, nu_lt, aw_e, nw_e, au_s, au_n, nu_s, nu_n, au_au, nu_nu, au_nu]; omega)⟩ ?_
    refine w_iload (pc' := 98) dX1_insert_96 rfl rfl ?_
    refine w_iadd (pc' := 99) dX1_insert_98 rfl ⟨by first | omega | (simp (decide := true) only [au_1, nu_2, au_lt, nu_lt, aw_e, nw_e, au_s, au_n, nu_s, nu_n, au_au, nu_nu, au_nu]; omega), by first | omega | (simp (decide := true) only [au_1, nu_2, au_lt, nu_lt, aw_e, nw_e, au_s, au_n, nu_s, nu_n, au_au, nu_nu, au_nu]; omega)⟩ ?_
    refine w_aload_n (pc' := 100) dX1_insert_99 rfl rfl ?_
    refine w_iload_n (pc' := 101) dX1_insert_100 rfl rfl ?_
    refine w_iload (pc' := 103) dX1_insert_101 rfl rfl ?_
    refine w_iconst (pc' := 104) dX1_insert_103 rfl (by decide) ?_
    refine w_isub (pc' := 105) dX1_insert_104 rfl ⟨by first | omega | (simp (decide := true) only [au_1, nu_2, au_lt, nu_lt, aw_e, nw_e, au_s, au_n, nu_s, nu_n, au_au, nu_nu, au_nu]; omega), by first | omega | (simp (decide := true) only [au_1, nu_2, au_lt, nu_lt, aw_e, nw_e, au_s, au_n, nu_s, nu_n, au_au, nu_nu, au_nu]; omega)⟩ ?_
    -- at 105: .invokevirtual 175
    try simp (decide := true) only [au_1, nu_2, au_lt, nu_lt, aw_e, nw_e, au_s, au_n, nu_s, nu_n, au_au, nu_nu, au_nu]
    refine w_callV2 (pc' := 108) (mc := 0) (ms := 0) dX1_insert_105 rfl tX1_rowOf q1302 rfl rfl qs44 q1300 ov_o rfl (Nat.le_of_ble_eq_true rfl) (Nat.le_of_ble_eq_true rfl) ?_
    refine c_X1_rowOf hp ⟨by omega, by omega⟩ ?_
    refine w_p1 ?_
    refine w_aui (pc' := 109) dX1_insert_108 rfl rfl (by first | omega | (simp (decide := true) only [au_1, nu_2, au_lt, nu_lt, aw_e, nw_e, au_s, au_n, nu_s, nu_n, au_au, nu_nu, au_nu]; omega)) (by first | omega | (simp (decide := true) only [au_1, nu_2, au_lt, nu_lt, aw_e, nw_e, au_s, au_n, nu_s, nu_n, au_au, nu_nu, au_nu]; omega)) ?_
    try simp (decide := true) only [au_1, nu_2, au_lt, nu_lt, aw_e, nw_e, au_s, au_n, nu_s, nu_n, au_au, nu_nu, au_nu]
    refine w_inc5 (pc' := 112) dX1_insert_109 rfl rfl ⟨by first | omega | (simp (decide := true) only [au_1, nu_2, au_lt, nu_lt, aw_e, nw_e, au_s, au_n, nu_s, nu_n, au_au, nu_nu, au_nu]; omega), by first | omega | (simp (decide := true) only [au_1, nu_2, au_lt, nu_lt, aw_e, nw_e, au_s, au_n, nu_s, nu_n, au_au, nu_nu, au_nu]; omega)⟩ ?_
    refine w_goto (tgt := 82) dX1_insert_112 rfl ?_
    -- at 82: .iload 5
    try simp (decide := true) only [au_1, nu_2, au_lt, nu_lt, aw_e, nw_e, au_s, au_n, nu_s, nu_n, au_au, nu_nu, au_nu]
    refine w_ms ?_ ih
    congr 1
    rw [show 60 * p + (k - 1) + 1 = 60 * p + k + 1 - 1 by omega, show σ.2 11 p - (k - 1) = σ.2 11 p - k + 1 by omega]
    exact rfill_p (by omega) (by omega) (by rw [rwa, rfill_out (by omega)]; exact congrArg (σ.2 10) (by omega))
def insOk (σ : MS) (p i len off : Int) : Prop := (0 ≤ p ∧ p < σ.1 12) ∧ (0 ≤ i ∧ i ≤ σ.2 11 p) ∧ σ.2 11 p ≠ 60 ∧ (0 ≤ len ∧ len ≤ 60) ∧ (-30 ≤ off ∧ off ≤ 30) ∧ σ.1 9 ≠ 6000
theorem c_X1_insert {p i len off : Int} (hR : rok σ) (hP : pok σ) (hU : uok σ) (h1 : insOk σ p i len off → K (some (xI 1)) (ov (sPutRow (sNew (sKeep σ p) len off) p i (σ.1 9)) G0)) (h0 : ¬ insOk σ p i len off → K (some (xI 0)) (ov σ G0)) : tvW mX1_insert (d + 2) K 0 [some (xR mR), some (xI p), some (xI i), some (xI len), some (xI off), none] [] (ov σ G0) bc bs := by
  unfold insOk at h0 h1
  obtain ⟨hp1, hP⟩ := hP
  have hR1 := hR.1
  have bad : ¬ ((0 ≤ p ∧ p < σ.1 12) ∧ (0 ≤ i ∧ i ≤ σ.2 11 p) ∧ σ.2 11 p ≠ 60 ∧ (0 ≤ len ∧ len ≤ 60) ∧ (-30 ≤ off ∧ off ≤ 30) ∧ σ.1 9 ≠ 6000) → tvW mX1_insert (d + 2) K 67 [some (xR mR), some (xI p), some (xI i), some (xI len), some (xI off), none] [] (ov σ G0) bc bs := by
    intro q
    refine w_iconst (pc' := 68) dX1_insert_67 rfl (by decide) ?_
    -- at 68: .ireturn
    try simp (decide := true) only [au_1, nu_2, au_lt, nu_lt, aw_e, nw_e, au_s, au_n, nu_s, nu_n, au_au, nu_nu, au_nu]
    refine w_zreturn dX1_insert_68 rfl (by first | exact Or.inl rfl | exact Or.inr rfl | omega) ?_
    exact h0 q
  refine w_aload_n (pc' := 1) dX1_insert_0 rfl rfl ?_
  refine w_iload_n (pc' := 2) dX1_insert_1 rfl rfl ?_
  refine w_callV1 (pc' := 5) (mc := 0) (ms := 0) dX1_insert_2 rfl tX1_isPattern q1294 rfl rfl qs42 q1292 ov_o rfl (Nat.le_of_ble_eq_true rfl) (Nat.le_of_ble_eq_true rfl) ?_
  refine c_X1_isPattern  (fun g2a g2b => w_p1 ?_) (fun g2 => w_p1 ?_)
  rotate_left
  · refine w_if_eq (pc' := 8) (tgt := 67) dX1_insert_5 rfl rfl (fun h_ => ?_) (fun h_ => False.elim (by omega))
    exact bad (by omega)
  refine w_if_eq (pc' := 8) (tgt := 67) dX1_insert_5 rfl rfl (fun h_ => False.elim (by omega)) (fun h_ => ?_)
  refine w_iload_n (pc' := 9) dX1_insert_8 rfl rfl ?_
  refine w_if_lt (pc' := 12) (tgt := 67) dX1_insert_9 rfl rfl (fun g9 => by exact bad (by omega)) (fun g9 => ?_)
  refine w_iload_n (pc' := 13) dX1_insert_12 rfl rfl ?_
  refine w_aload_n (pc' := 14) dX1_insert_13 rfl rfl ?_
  refine w_mga 11 (pc' := 17) dX1_insert_14 rfl fX1_40_1 rfl ?_
  refine w_iload_n (pc' := 18) dX1_insert_17 rfl rfl ?_
  refine w_mild (pc' := 19) dX1_insert_18 rfl rfl (by first | omega | (simp (decide := true) only [au_1, nu_2, au_lt, nu_lt, aw_e, nw_e, au_s, au_n, nu_s, nu_n, au_au, nu_nu, au_nu]; omega)) (by first | omega | (simp (decide := true) only [au_1, nu_2, au_lt, nu_lt, aw_e, nw_e, au_s, au_n, nu_s, nu_n, au_au, nu_nu, au_nu]; omega)) ?_
  refine w_icmp_gt (pc' := 22) (tgt := 67) dX1_insert_19 rfl rfl (fun g19 => by exact bad (by omega)) (fun g19 => ?_)
  refine w_aload_n (pc' := 23) dX1_insert_22 rfl rfl ?_
  refine w_mga 11 (pc' := 26) dX1_insert_23 rfl fX1_40_1 rfl ?_
  refine w_iload_n (pc' := 27) dX1_insert_26 rfl rfl ?_
  refine w_mild (pc' := 28) dX1_insert_27 rfl rfl (by first | omega | (simp (decide := true) only [au_1, nu_2, au_lt, nu_lt, aw_e, nw_e, au_s, au_n, nu_s, nu_n, au_au, nu_nu, au_nu]; omega)) (by first | omega | (simp (decide := true) only [au_1, nu_2, au_lt, nu_lt, aw_e, nw_e, au_s, au_n, nu_s, nu_n, au_au, nu_nu, au_nu]; omega)) ?_
  refine w_bipush (pc' := 30) dX1_insert_28 rfl (by decide +kernel) (by decide) ?_
  refine w_icmp_eq (pc' := 33) (tgt := 67) dX1_insert_30 rfl rfl (fun g30 => by exact bad (by omega)) (fun g30 => ?_)
  refine w_iload_n (pc' := 34) dX1_insert_33 rfl rfl ?_
  refine w_if_lt (pc' := 37) (tgt := 67) dX1_insert_34 rfl rfl (fun g34 => by exact bad (by omega)) (fun g34 => ?_)
  refine w_iload_n (pc' := 38) dX1_insert_37 rfl rfl ?_
  refine w_bipush (pc' := 40) dX1_insert_38 rfl (by decide +kernel) (by decide) ?_
  refine w_icmp_gt (pc' := 43) (tgt := 67) dX1_insert_40 rfl rfl (fun g40 => by exact bad (by omega)) (fun g40 => ?_)
  refine w_iload (pc' := 45) dX1_insert_43 rfl rfl ?_
  refine w_bipush (pc' := 47) dX1_insert_45 rfl (by decide +kernel) (by decide) ?_
  refine w_icmp_lt (pc' := 50) (tgt := 67) dX1_insert_47 rfl rfl (fun g47 => by exact bad (by omega)) (fun g47 => ?_)
  refine w_iload (pc' := 52) dX1_insert_50 rfl rfl ?_
  refine w_bipush (pc' := 54) dX1_insert_52 rfl (by decide +kernel) (by decide) ?_
  refine w_icmp_gt (pc' := 57) (tgt := 67) dX1_insert_54 rfl rfl (fun g54 => by exact bad (by omega)) (fun g54 => ?_)
  refine w_aload_n (pc' := 58) dX1_insert_57 rfl rfl ?_
  refine w_mgi 9 (pc' := 61) dX1_insert_58 rfl fX1_172_1 rfl ?_
  refine w_sipush (pc' := 64) dX1_insert_61 rfl (by decide +kernel) (by decide) ?_
  refine w_icmp_ne (pc' := 67) (tgt := 69) dX1_insert_64 rfl rfl (fun g64 => ?_) (fun g64 => by exact bad (by omega))
  -- at 69: .aload_n 0
  have hM := (hP p g2a g2b).1
  refine w_aload_n (pc' := 70) dX1_insert_69 rfl rfl ?_
  refine w_iload_n (pc' := 71) dX1_insert_70 rfl rfl ?_
  -- at 71: .invokevirtual 190
  try simp (decide := true) only [au_1, nu_2, au_lt, nu_lt, aw_e, nw_e, au_s, au_n, nu_s, nu_n, au_au, nu_nu, au_nu]
  refine w_callV1 (pc' := 74) (mc := 0) (ms := 0) dX1_insert_71 rfl tX1_keep q1298 rfl rfl qs43 q1296 ov_o rfl (Nat.le_of_ble_eq_true rfl) (Nat.le_of_ble_eq_true rfl) ?_
  refine c_X1_keep ⟨hU.1, hU.2.1⟩ ⟨g2a, by omega⟩ hM ?_
  refine w_p0 ?_
  exact c_X1_insert_t (σ := sKeep σ p) ⟨g2a, by omega⟩ ⟨hM.1, show σ.2 11 p < 60 by omega⟩ ⟨by omega, show i ≤ σ.2 11 p by omega⟩ ⟨by omega, by omega⟩ ⟨hR1.1, show σ.1 9 < 6000 by omega⟩ (h1 (by omega))
theorem c_X1_move_t {p i to r : Int} (hp : 0 ≤ p ∧ p < 16) (hM : 0 ≤ σ.2 11 p ∧ σ.2 11 p < 60) (hi : 0 ≤ to ∧ to ≤ σ.2 11 p) (h : K (some (xI 1)) (ov (sPutRow σ p to r) G0)) : tvW mX1_move (d + 2) K 57 [some (xR mR), some (xI p), some (xI i), some (xI to), some (xI r), none] [] (ov σ G0) bc bs := by
  refine w_aload_n (pc' := 58) dX1_move_57 rfl rfl ?_
  refine w_mga 11 (pc' := 61) dX1_move_58 rfl fX1_40_1 rfl ?_
  refine w_iload_n (pc' := 62) dX1_move_61 rfl rfl ?_
  refine w_mild (pc' := 63) dX1_move_62 rfl rfl (by first | omega | (simp (decide := true) only [au_1, nu_2, au_lt, nu_lt, aw_e, nw_e, au_s, au_n, nu_s, nu_n, au_au, nu_nu, au_nu]; omega)) (by first | omega | (simp (decide := true) only [au_1, nu_2, au_lt, nu_lt, aw_e, nw_e, au_s, au_n, nu_s, nu_n, au_au, nu_nu, au_nu]; omega)) ?_
  refine w_ist5 (pc' := 65) dX1_move_63 rfl rfl ?_
  -- at 65: .iload 5
  try simp (decide := true) only [au_1, nu_2, au_lt, nu_lt, aw_e, nw_e, au_s, au_n, nu_s, nu_n, au_au, nu_nu, au_nu]
  refine w_ms (τ := au σ 10 (rfill (σ.2 10) (60 * p + σ.2 11 p + 1) (σ.2 11 p - σ.2 11 p) (fun q => σ.2 10 (q - 1)))) ?_ ?_
  · rw [Int.sub_self, rfill_0]; exact au_id.symm
  refine dn (T := fun k => tvW mX1_move (d + 2) K 65 [some (xR mR), some (xI p), some (xI i), some (xI to), some (xI r), some (xI k)] [] (ov (au σ 10 (rfill (σ.2 10) (60 * p + k + 1) (σ.2 11 p - k) (fun q => σ.2 10 (q - 1)))) G0) bc bs) to hi.2 ?_ (fun k h0 h1 ih => ?_)
  · refine w_iload (pc' := 67) dX1_move_65 rfl rfl ?_
    refine w_iload_n (pc' := 68) dX1_move_67 rfl rfl ?_
    -- at 68: .if_icmp .le 30
    try simp (decide := true) only [au_1, nu_2, au_lt, nu_lt, aw_e, nw_e, au_s, au_n, nu_s, nu_n, au_au, nu_nu, au_nu]
    refine w_icmp_le (pc' := 71) (tgt := 98) dX1_move_68 rfl rfl (fun h_ => ?_) (fun h_ => False.elim (by first | omega | (simp (decide := true) only [au_1, nu_2, au_lt, nu_lt, aw_e, nw_e, au_s, au_n, nu_s, nu_n, au_au, nu_nu, au_nu] at h_; omega)))
    refine w_aload_n (pc' := 99) dX1_move_98 rfl rfl ?_
    refine w_mga 10 (pc' := 102) dX1_move_99 rfl fX1_37_1 rfl ?_
    refine w_bipush (pc' := 104) dX1_move_102 rfl (by decide +kernel) (by decide) ?_
    refine w_iload_n (pc' := 105) dX1_move_104 rfl rfl ?_
    refine w_imul (pc' := 106) dX1_move_105 rfl ⟨by first | omega | (simp (decide := true) only [au_1, nu_2, au_lt, nu_lt, aw_e, nw_e, au_s, au_n, nu_s, nu_n, au_au, nu_nu, au_nu]; omega), by first | omega | (simp (decide := true) only [au_1, nu_2, au_lt, nu_lt, aw_e, nw_e, au_s, au_n, nu_s, nu_n, au_au, nu_nu, au_nu]; omega)⟩ ?_
    refine w_iload_n (pc' := 107) dX1_move_106 rfl rfl ?_
    refine w_iadd (pc' := 108) dX1_move_107 rfl ⟨by first | omega | (simp (decide := true) only [au_1, nu_2, au_lt, nu_lt, aw_e, nw_e, au_s, au_n, nu_s, nu_n, au_au, nu_nu, au_nu]; omega), by first | omega | (simp (decide := true) only [au_1, nu_2, au_lt, nu_lt, aw_e, nw_e, au_s, au_n, nu_s, nu_n, au_au, nu_nu, au_nu]; omega)⟩ ?_
    refine w_iload (pc' := 110) dX1_move_108 rfl rfl ?_
    refine w_aui (pc' := 111) dX1_move_110 rfl rfl (by first | omega | (simp (decide := true) only [au_1, nu_2, au_lt, nu_lt, aw_e, nw_e, au_s, au_n, nu_s, nu_n, au_au, nu_nu, au_nu]; omega)) (by first | omega | (simp (decide := true) only [au_1, nu_2, au_lt, nu_lt, aw_e, nw_e, au_s, au_n, nu_s, nu_n, au_au, nu_nu, au_nu]; omega)) ?_
    try simp (decide := true) only [au_1, nu_2, au_lt, nu_lt, aw_e, nw_e, au_s, au_n, nu_s, nu_n, au_au, nu_nu, au_nu]
    refine w_aload_n (pc' := 112) dX1_move_111 rfl rfl ?_
    refine w_mga 11 (pc' := 115) dX1_move_112 rfl fX1_40_1 rfl ?_
    refine w_iload_n (pc' := 116) dX1_move_115 rfl rfl ?_
    refine w_dup2 (pc' := 117) dX1_move_116 rfl rfl rfl ?_
    refine w_mild (pc' := 118) dX1_move_117 rfl rfl (by first | omega | (simp (decide := true) only [au_1, nu_2, au_lt, nu_lt, aw_e, nw_e, au_s, au_n, nu_s, nu_n, au_au, nu_nu, au_nu]; omega)) (by first | omega | (simp (decide := true) only [au_1, nu_2, au_lt, nu_lt, aw_e, nw_e, au_s, au_n, nu_s, nu_n, au_au, nu_nu, au_nu]; omega)) ?_
    refine w_iconst (pc' := 119) dX1_move_118 rfl (by decide) ?_
    refine w_iadd (pc' := 120) dX1_move_119 rfl ⟨by first | omega | (simp (decide := true) only [au_1, nu_2, au_lt, nu_lt, aw_e, nw_e, au_s, au_n, nu_s, nu_n, au_au, nu_nu, au_nu]; omega), by first | omega | (simp (decide := true) only [au_1, nu_2, au_lt, nu_lt, aw_e, nw_e, au_s, au_n, nu_s, nu_n, au_au, nu_nu, au_nu]; omega)⟩ ?_
    refine w_aui (pc' := 121) dX1_move_120 rfl rfl (by first | omega | (simp (decide := true) only [au_1, nu_2, au_lt, nu_lt, aw_e, nw_e, au_s, au_n, nu_s, nu_n, au_au, nu_nu, au_nu]; omega)) (by first | omega | (simp (decide := true) only [au_1, nu_2, au_lt, nu_lt, aw_e, nw_e, au_s, au_n, nu_s, nu_n, au_au, nu_nu, au_nu]; omega)) ?_
    try simp (decide := true) only [au_1, nu_2, au_lt, nu_lt, aw_e, nw_e, au_s, au_n, nu_s, nu_n, au_au, nu_nu, au_nu]
    refine w_iconst (pc' := 122) dX1_move_121 rfl (by decide) ?_
    -- at 122: .ireturn
    try simp (decide := true) only [au_1, nu_2, au_lt, nu_lt, aw_e, nw_e, au_s, au_n, nu_s, nu_n, au_au, nu_nu, au_nu]
    refine w_zreturn dX1_move_122 rfl (by first | exact Or.inl rfl | exact Or.inr rfl | omega) ?_
    exact h
  · refine w_iload (pc' := 67) dX1_move_65 rfl rfl ?_
    refine w_iload_n (pc' := 68) dX1_move_67 rfl rfl ?_
    -- at 68: .if_icmp .le 30
    try simp (decide := true) only [au_1, nu_2, au_lt, nu_lt, aw_e, nw_e, au_s, au_n, nu_s, nu_n, au_au, nu_nu, au_nu]
    refine w_icmp_le (pc' := 71) (tgt := 98) dX1_move_68 rfl rfl (fun h_ => False.elim (by first | omega | (simp (decide := true) only [au_1, nu_2, au_lt, nu_lt, aw_e, nw_e, au_s, au_n, nu_s, nu_n, au_au, nu_nu, au_nu] at h_; omega))) (fun h_ => ?_)
    refine w_aload_n (pc' := 72) dX1_move_71 rfl rfl ?_
    refine w_mga 10 (pc' := 75) dX1_move_72 rfl fX1_37_1 rfl ?_
    refine w_bipush (pc' := 77) dX1_move_75 rfl (by decide +kernel) (by decide) ?_
    refine w_iload_n (pc' := 78) dX1_move_77 rfl rfl ?_
    refine w_imul (pc' := 79) dX1_move_78 rfl ⟨by first | omega | (simp (decide := true) only [au_1, nu_2, au_lt, nu_lt, aw_e, nw_e, au_s, au_n, nu_s, nu_n, au_au, nu_nu, au_nu]; omega), by first | omega | (simp (decide := true) only [au_1, nu_2, au_lt, nu_lt, aw_e, nw_e, au_s, au_n, nu_s, nu_n, au_au, nu_nu, au_nu]; omega)⟩ ?_
    refine w_iload (pc' := 81) dX1_move_79 rfl rfl ?_
    refine w_iadd (pc' := 82) dX1_move_81 rfl ⟨by first | omega | (simp (decide := true) only [au_1, nu_2, au_lt, nu_lt, aw_e, nw_e, au_s, au_n, nu_s, nu_n, au_au, nu_nu, au_nu]; omega), by first | omega | (simp (decide := true) only [au_1, nu_2, au_lt, nu_lt, aw_e, nw_e, au_s, au_n, nu_s, nu_n, au_au, nu_nu, au_nu]; omega)⟩ ?_
    refine w_aload_n (pc' := 83) dX1_move_82 rfl rfl ?_
    refine w_iload_n (pc' := 84) dX1_move_83 rfl rfl ?_
    refine w_iload (pc' := 86) dX1_move_84 rfl rfl ?_
    refine w_iconst (pc' := 87) dX1_move_86 rfl (by decide) ?_
    refine w_isub (pc' := 88) dX1_move_87 rfl ⟨by first | omega | (simp (decide := true) only [au_1, nu_2, au_lt, nu_lt, aw_e, nw_e, au_s, au_n, nu_s, nu_n, au_au, nu_nu, au_nu]; omega), by first | omega | (simp (decide := true) only [au_1, nu_2, au_lt, nu_lt, aw_e, nw_e, au_s, au_n, nu_s, nu_n, au_au, nu_nu, au_nu]; omega)⟩ ?_
    -- at 88: .invokevirtual 175
    try simp (decide := true) only [au_1, nu_2, au_lt, nu_lt, aw_e, nw_e, au_s, au_n, nu_s, nu_n, au_au, nu_nu, au_nu]
    refine w_callV2 (pc' := 91) (mc := 0) (ms := 0) dX1_move_88 rfl tX1_rowOf q1302 rfl rfl qs44 q1300 ov_o rfl (Nat.le_of_ble_eq_true rfl) (Nat.le_of_ble_eq_true rfl) ?_
    refine c_X1_rowOf hp ⟨by omega, by omega⟩ ?_
    refine w_p1 ?_
    refine w_aui (pc' := 92) dX1_move_91 rfl rfl (by first | omega | (simp (decide := true) only [au_1, nu_2, au_lt, nu_lt, aw_e, nw_e, au_s, au_n, nu_s, nu_n, au_au, nu_nu, au_nu]; omega)) (by first | omega | (simp (decide := true) only [au_1, nu_2, au_lt, nu_lt, aw_e, nw_e, au_s, au_n, nu_s, nu_n, au_au, nu_nu, au_nu]; omega)) ?_
    try simp (decide := true) only [au_1, nu_2, au_lt, nu_lt, aw_e, nw_e, au_s, au_n, nu_s, nu_n, au_au, nu_nu, au_nu]
    refine w_inc5 (pc' := 95) dX1_move_92 rfl rfl ⟨by first | omega | (simp (decide := true) only [au_1, nu_2, au_lt, nu_lt, aw_e, nw_e, au_s, au_n, nu_s, nu_n, au_au, nu_nu, au_nu]; omega), by first | omega | (simp (decide := true) only [au_1, nu_2, au_lt, nu_lt, aw_e, nw_e, au_s, au_n, nu_s, nu_n, au_au, nu_nu, au_nu]; omega)⟩ ?_
    refine w_goto (tgt := 65) dX1_move_95 rfl ?_
    -- at 65: .iload 5
    try simp (decide := true) only [au_1, nu_2, au_lt, nu_lt, aw_e, nw_e, au_s, au_n, nu_s, nu_n, au_au, nu_nu, au_nu]
    refine w_ms ?_ ih
    congr 1
    rw [show 60 * p + (k - 1) + 1 = 60 * p + k + 1 - 1 by omega, show σ.2 11 p - (k - 1) = σ.2 11 p - k + 1 by omega]
    exact rfill_p (by omega) (by omega) (by rw [rwa, rfill_out (by omega)]; exact congrArg (σ.2 10) (by omega))
theorem c_X1_move {p i to : Int} (hP : pok σ) (hU : uok σ) (h1 : (0 ≤ p ∧ p < σ.1 12) ∧ (0 ≤ i ∧ i < σ.2 11 p) ∧ 0 ≤ to ∧ to < σ.2 11 p → K (some (xI 1)) (ov (sPutRow (sTake (sKeep σ p) p i) p to (rw_ σ p i)) G0)) (h0 : ¬ ((0 ≤ p ∧ p < σ.1 12) ∧ (0 ≤ i ∧ i < σ.2 11 p) ∧ 0 ≤ to ∧ to < σ.2 11 p) → K (some (xI 0)) (ov σ G0)) : tvW mX1_move (d + 2) K 0 [some (xR mR), some (xI p), some (xI i), some (xI to), none, none] [] (ov σ G0) bc bs := by
  obtain ⟨hp1, hP⟩ := hP
  have bad : ¬ ((0 ≤ p ∧ p < σ.1 12) ∧ (0 ≤ i ∧ i < σ.2 11 p) ∧ 0 ≤ to ∧ to < σ.2 11 p) → tvW mX1_move (d + 2) K 36 [some (xR mR), some (xI p), some (xI i), some (xI to), none, none] [] (ov σ G0) bc bs := by
    intro q
    refine w_iconst (pc' := 37) dX1_move_36 rfl (by decide) ?_
    -- at 37: .ireturn
    try simp (decide := true) only [au_1, nu_2, au_lt, nu_lt, aw_e, nw_e, au_s, au_n, nu_s, nu_n, au_au, nu_nu, au_nu]
    refine w_zreturn dX1_move_37 rfl (by first | exact Or.inl rfl | exact Or.inr rfl | omega) ?_
    exact h0 q
  refine w_aload_n (pc' := 1) dX1_move_0 rfl rfl ?_
  refine w_iload_n (pc' := 2) dX1_move_1 rfl rfl ?_
  refine w_callV1 (pc' := 5) (mc := 0) (ms := 0) dX1_move_2 rfl tX1_isPattern q1294 rfl rfl qs42 q1292 ov_o rfl (Nat.le_of_ble_eq_true rfl) (Nat.le_of_ble_eq_true rfl) ?_
  refine c_X1_isPattern  (fun g2a g2b => w_p1 ?_) (fun g2 => w_p1 ?_)
  rotate_left
  · refine w_if_eq (pc' := 8) (tgt := 36) dX1_move_5 rfl rfl (fun h_ => ?_) (fun h_ => False.elim (by omega))
    exact bad (by omega)
  refine w_if_eq (pc' := 8) (tgt := 36) dX1_move_5 rfl rfl (fun h_ => False.elim (by omega)) (fun h_ => ?_)
  refine w_iload_n (pc' := 9) dX1_move_8 rfl rfl ?_
  refine w_if_lt (pc' := 12) (tgt := 36) dX1_move_9 rfl rfl (fun g9 => by exact bad (by omega)) (fun g9 => ?_)
  refine w_iload_n (pc' := 13) dX1_move_12 rfl rfl ?_
  refine w_aload_n (pc' := 14) dX1_move_13 rfl rfl ?_
  refine w_mga 11 (pc' := 17) dX1_move_14 rfl fX1_40_1 rfl ?_
  refine w_iload_n (pc' := 18) dX1_move_17 rfl rfl ?_
  refine w_mild (pc' := 19) dX1_move_18 rfl rfl (by first | omega | (simp (decide := true) only [au_1, nu_2, au_lt, nu_lt, aw_e, nw_e, au_s, au_n, nu_s, nu_n, au_au, nu_nu, au_nu]; omega)) (by first | omega | (simp (decide := true) only [au_1, nu_2, au_lt, nu_lt, aw_e, nw_e, au_s, au_n, nu_s, nu_n, au_au, nu_nu, au_nu]; omega)) ?_
  refine w_icmp_ge (pc' := 22) (tgt := 36) dX1_move_19 rfl rfl (fun g19 => by exact bad (by omega)) (fun g19 => ?_)
  refine w_iload_n (pc' := 23) dX1_move_22 rfl rfl ?_
  refine w_if_lt (pc' := 26) (tgt := 36) dX1_move_23 rfl rfl (fun g23 => by exact bad (by omega)) (fun g23 => ?_)
  refine w_iload_n (pc' := 27) dX1_move_26 rfl rfl ?_
  refine w_aload_n (pc' := 28) dX1_move_27 rfl rfl ?_
  refine w_mga 11 (pc' := 31) dX1_move_28 rfl fX1_40_1 rfl ?_
  refine w_iload_n (pc' := 32) dX1_move_31 rfl rfl ?_
  refine w_mild (pc' := 33) dX1_move_32 rfl rfl (by first | omega | (simp (decide := true) only [au_1, nu_2, au_lt, nu_lt, aw_e, nw_e, au_s, au_n, nu_s, nu_n, au_au, nu_nu, au_nu]; omega)) (by first | omega | (simp (decide := true) only [au_1, nu_2, au_lt, nu_lt, aw_e, nw_e, au_s, au_n, nu_s, nu_n, au_au, nu_nu, au_nu]; omega)) ?_
  refine w_icmp_lt (pc' := 36) (tgt := 38) dX1_move_33 rfl rfl (fun g33 => ?_) (fun g33 => by exact bad (by omega))
  -- at 38: .aload_n 0
  have hM := (hP p g2a g2b).1
  refine w_aload_n (pc' := 39) dX1_move_38 rfl rfl ?_
  refine w_iload_n (pc' := 40) dX1_move_39 rfl rfl ?_
  -- at 40: .invokevirtual 190
  try simp (decide := true) only [au_1, nu_2, au_lt, nu_lt, aw_e, nw_e, au_s, au_n, nu_s, nu_n, au_au, nu_nu, au_nu]
  refine w_callV1 (pc' := 43) (mc := 0) (ms := 0) dX1_move_40 rfl tX1_keep q1298 rfl rfl qs43 q1296 ov_o rfl (Nat.le_of_ble_eq_true rfl) (Nat.le_of_ble_eq_true rfl) ?_
  refine c_X1_keep ⟨hU.1, hU.2.1⟩ ⟨g2a, by omega⟩ hM ?_
  refine w_p0 ?_
  refine w_aload_n (pc' := 44) dX1_move_43 rfl rfl ?_
  refine w_iload_n (pc' := 45) dX1_move_44 rfl rfl ?_
  refine w_iload_n (pc' := 46) dX1_move_45 rfl rfl ?_
  -- at 46: .invokevirtual 175
  try simp (decide := true) only [au_1, nu_2, au_lt, nu_lt, aw_e, nw_e, au_s, au_n, nu_s, nu_n, au_au, nu_nu, au_nu]
  refine w_callV2 (pc' := 49) (mc := 0) (ms := 0) dX1_move_46 rfl tX1_rowOf q1302 rfl rfl qs44 q1300 ov_o rfl (Nat.le_of_ble_eq_true rfl) (Nat.le_of_ble_eq_true rfl) ?_
  refine c_X1_rowOf ⟨g2a, by omega⟩ ⟨by omega, by omega⟩ ?_
  refine w_p1 ?_
  refine w_ist4 (pc' := 51) dX1_move_49 rfl rfl ?_
  refine w_aload_n (pc' := 52) dX1_move_51 rfl rfl ?_
  refine w_iload_n (pc' := 53) dX1_move_52 rfl rfl ?_
  refine w_iload_n (pc' := 54) dX1_move_53 rfl rfl ?_
  -- at 54: .invokevirtual 197
  try simp (decide := true) only [au_1, nu_2, au_lt, nu_lt, aw_e, nw_e, au_s, au_n, nu_s, nu_n, au_au, nu_nu, au_nu]
  refine w_callV2 (pc' := 57) (mc := 0) (ms := 0) dX1_move_54 rfl tX1_takeRow q1314 rfl rfl qs46 q1312 ov_o rfl (Nat.le_of_ble_eq_true rfl) (Nat.le_of_ble_eq_true rfl) ?_
  refine c_X1_takeRow ⟨g2a, by omega⟩ hM.2 ⟨by omega, show i < σ.2 11 p by omega⟩ ?_
  refine w_p0 ?_
  have e : (sTake (sKeep σ p) p i).2 11 p = σ.2 11 p - 1 := iset_s
  exact c_X1_move_t (σ := sTake (sKeep σ p) p i) ⟨g2a, by omega⟩ (by omega) (by omega) (h1 (by omega))
def sUndo (σ : MS) : MS := nu (nu (au (au σ 10 (rfill (σ.2 10) (60 * σ.2 13 ((σ.1 17 + 39) % 40)) (σ.2 14 ((σ.1 17 + 39) % 40)) (fun q => σ.2 15 (60 * ((σ.1 17 + 39) % 40) + (q - 60 * σ.2 13 ((σ.1 17 + 39) % 40)))))) 11 (iset (σ.2 11) (σ.2 13 ((σ.1 17 + 39) % 40)) (σ.2 14 ((σ.1 17 + 39) % 40)))) 16 (σ.1 16 - 1)) 17 ((σ.1 17 + 39) % 40)
theorem us_0 {σ : MS} (h : 0 ≤ σ.1 17 ∧ σ.1 17 < 40) : us_ σ 0 = (σ.1 17 + 39) % 40 := by unfold us_; omega
theorem c_X1_undo (hP : pok σ) (hU : uok σ) (h1 : 0 < σ.1 16 → K (some (xI (σ.1 16 - 1))) (ov (sUndo σ) G0)) (h0 : σ.1 16 = 0 → K (some (xI (-1))) (ov σ G0)) : tvW mX1_undo d K 0 [some (xR mR), none, none] [] (ov σ G0) bc bs := by
  obtain ⟨u1, u2, hU⟩ := hU
  have hp16 := hP.1.2
  refine w_aload_n (pc' := 1) dX1_undo_0 rfl rfl ?_
  refine w_mgi 16 (pc' := 4) dX1_undo_1 rfl fX1_184_1 rfl ?_
  -- at 4: .ifCond .ne 5
  try simp (decide := true) only [au_1, nu_2, au_lt, nu_lt, aw_e, nw_e, au_s, au_n, nu_s, nu_n, au_au, nu_nu, au_nu]
  refine w_if_ne (pc' := 7) (tgt := 9) dX1_undo_4 rfl rfl (fun g => ?_) (fun g => ?_)
  · obtain ⟨a1, a2, a3⟩ := hU 0 (by omega) (by omega)
    rw [us_0 u2] at a1 a2 a3
    have hat : 0 ≤ (σ.1 17 + 39) % 40 ∧ (σ.1 17 + 39) % 40 < 40 := by omega
    unfold sUndo at h1
    refine w_aload_n (pc' := 10) dX1_undo_9 rfl rfl ?_
    refine w_dup (pc' := 11) dX1_undo_10 rfl rfl ?_
    refine w_mgi 16 (pc' := 14) dX1_undo_11 rfl fX1_184_1 rfl ?_
    refine w_iconst (pc' := 15) dX1_undo_14 rfl (by decide) ?_
    refine w_isub (pc' := 16) dX1_undo_15 rfl ⟨by first | omega | (simp (decide := true) only [au_1, nu_2, au_lt, nu_lt, aw_e, nw_e, au_s, au_n, nu_s, nu_n, au_au, nu_nu, au_nu]; omega), by first | omega | (simp (decide := true) only [au_1, nu_2, au_lt, nu_lt, aw_e, nw_e, au_s, au_n, nu_s, nu_n, au_au, nu_nu, au_nu]; omega)⟩ ?_
    refine w_nup 16 (pc' := 19) dX1_undo_16 rfl pX1_184_1 rfl trivial ?_
    try simp (decide := true) only [au_1, nu_2, au_lt, nu_lt, aw_e, nw_e, au_s, au_n, nu_s, nu_n, au_au, nu_nu, au_nu]
    refine w_aload_n (pc' := 20) dX1_undo_19 rfl rfl ?_
    refine w_aload_n (pc' := 21) dX1_undo_20 rfl rfl ?_
    refine w_mgi 17 (pc' := 24) dX1_undo_21 rfl fX1_181_1 rfl ?_
    refine w_bipush (pc' := 26) dX1_undo_24 rfl (by decide +kernel) (by decide) ?_
    refine w_iadd (pc' := 27) dX1_undo_26 rfl ⟨by first | omega | (simp (decide := true) only [au_1, nu_2, au_lt, nu_lt, aw_e, nw_e, au_s, au_n, nu_s, nu_n, au_au, nu_nu, au_nu]; omega), by first | omega | (simp (decide := true) only [au_1, nu_2, au_lt, nu_lt, aw_e, nw_e, au_s, au_n, nu_s, nu_n, au_au, nu_nu, au_nu]; omega)⟩ ?_
    refine w_iconst (pc' := 28) dX1_undo_27 rfl (by decide) ?_
    refine w_isub (pc' := 29) dX1_undo_28 rfl ⟨by first | omega | (simp (decide := true) only [au_1, nu_2, au_lt, nu_lt, aw_e, nw_e, au_s, au_n, nu_s, nu_n, au_au, nu_nu, au_nu]; omega), by first | omega | (simp (decide := true) only [au_1, nu_2, au_lt, nu_lt, aw_e, nw_e, au_s, au_n, nu_s, nu_n, au_au, nu_nu, au_nu]; omega)⟩ ?_
    refine w_bipush (pc' := 31) dX1_undo_29 rfl (by decide +kernel) (by decide) ?_
    -- at 31: .irem
    try simp (decide := true) only [au_1, nu_2, au_lt, nu_lt, aw_e, nw_e, au_s, au_n, nu_s, nu_n, au_au, nu_nu, au_nu]
    rw [show σ.1 17 + 40 - 1 = σ.1 17 + 39 by omega]
    refine w_irem (pc' := 32) dX1_undo_31 rfl (by first | omega | (simp (decide := true) only [au_1, nu_2, au_lt, nu_lt, aw_e, nw_e, au_s, au_n, nu_s, nu_n, au_au, nu_nu, au_nu]; omega)) (by first | omega | (simp (decide := true) only [au_1, nu_2, au_lt, nu_lt, aw_e, nw_e, au_s, au_n, nu_s, nu_n, au_au, nu_nu, au_nu]; omega)) ?_
    refine w_nup 17 (pc' := 35) dX1_undo_32 rfl pX1_181_1 rfl trivial ?_
    try simp (decide := true) only [au_1, nu_2, au_lt, nu_lt, aw_e, nw_e, au_s, au_n, nu_s, nu_n, au_au, nu_nu, au_nu]
    refine w_aload_n (pc' := 36) dX1_undo_35 rfl rfl ?_
    refine w_mga 13 (pc' := 39) dX1_undo_36 rfl fX1_43_1 rfl ?_
    refine w_aload_n (pc' := 40) dX1_undo_39 rfl rfl ?_
    refine w_mgi 17 (pc' := 43) dX1_undo_40 rfl fX1_181_1 rfl ?_
    refine w_mild (pc' := 44) dX1_undo_43 rfl rfl (by first | omega | (simp (decide := true) only [au_1, nu_2, au_lt, nu_lt, aw_e, nw_e, au_s, au_n, nu_s, nu_n, au_au, nu_nu, au_nu]; omega)) (by first | omega | (simp (decide := true) only [au_1, nu_2, au_lt, nu_lt, aw_e, nw_e, au_s, au_n, nu_s, nu_n, au_au, nu_nu, au_nu]; omega)) ?_
    refine w_ist1 (pc' := 45) dX1_undo_44 rfl rfl ?_
    refine w_aload_n (pc' := 46) dX1_undo_45 rfl rfl ?_
    refine w_mga 11 (pc' := 49) dX1_undo_46 rfl fX1_40_1 rfl ?_
    refine w_iload_n (pc' := 50) dX1_undo_49 rfl rfl ?_
    refine w_aload_n (pc' := 51) dX1_undo_50 rfl rfl ?_
    refine w_mga 14 (pc' := 54) dX1_undo_51 rfl fX1_46_1 rfl ?_
    refine w_aload_n (pc' := 55) dX1_undo_54 rfl rfl ?_
    refine w_mgi 17 (pc' := 58) dX1_undo_55 rfl fX1_181_1 rfl ?_
    refine w_mild (pc' := 59) dX1_undo_58 rfl rfl (by first | omega | (simp (decide := true) only [au_1, nu_2, au_lt, nu_lt, aw_e, nw_e, au_s, au_n, nu_s, nu_n, au_au, nu_nu, au_nu]; omega)) (by first | omega | (simp (decide := true) only [au_1, nu_2, au_lt, nu_lt, aw_e, nw_e, au_s, au_n, nu_s, nu_n, au_au, nu_nu, au_nu]; omega)) ?_
    refine w_aui (pc' := 60) dX1_undo_59 rfl rfl (by first | omega | (simp (decide := true) only [au_1, nu_2, au_lt, nu_lt, aw_e, nw_e, au_s, au_n, nu_s, nu_n, au_au, nu_nu, au_nu]; omega)) (by first | omega | (simp (decide := true) only [au_1, nu_2, au_lt, nu_lt, aw_e, nw_e, au_s, au_n, nu_s, nu_n, au_au, nu_nu, au_nu]; omega)) ?_
    try simp (decide := true) only [au_1, nu_2, au_lt, nu_lt, aw_e, nw_e, au_s, au_n, nu_s, nu_n, au_au, nu_nu, au_nu]
    refine w_iconst (pc' := 61) dX1_undo_60 rfl (by decide) ?_
    refine w_ist2 (pc' := 62) dX1_undo_61 rfl rfl ?_
    -- at 62: .iload_n 2
    try simp (decide := true) only [au_1, nu_2, au_lt, nu_lt, aw_e, nw_e, au_s, au_n, nu_s, nu_n, au_au, nu_nu, au_nu]
    generalize hw : (σ.1 17 + 39) % 40 = w at *
    refine w_ms (τ := nu (nu (au (au σ 10 (rfill (σ.2 10) (60 * σ.2 13 w) 0 (fun q => σ.2 15 (60 * w + (q - 60 * σ.2 13 w))))) 11 (iset (σ.2 11) (σ.2 13 w) (σ.2 14 w))) 16 (σ.1 16 - 1)) 17 w) ?_ ?_
    · rw [rfill_0, au_id]
    refine up (T := fun k => tvW mX1_undo d K 62 [some (xR mR), some (xI (σ.2 13 w)), some (xI k)] [] (ov (nu (nu (au (au σ 10 (rfill (σ.2 10) (60 * σ.2 13 w) k (fun q => σ.2 15 (60 * w + (q - 60 * σ.2 13 w))))) 11 (iset (σ.2 11) (σ.2 13 w) (σ.2 14 w))) 16 (σ.1 16 - 1)) 17 w) G0) bc bs) (σ.2 14 w) a2.1 ?_ (fun k k0 k1 ih => ?_)
    · refine w_iload_n (pc' := 63) dX1_undo_62 rfl rfl ?_
      refine w_aload_n (pc' := 64) dX1_undo_63 rfl rfl ?_
      refine w_mga 11 (pc' := 67) dX1_undo_64 rfl fX1_40_1 rfl ?_
      refine w_iload_n (pc' := 68) dX1_undo_67 rfl rfl ?_
      refine w_mild (pc' := 69) dX1_undo_68 rfl rfl (by first | omega | (simp (decide := true) only [au_1, nu_2, au_lt, nu_lt, aw_e, nw_e, au_s, au_n, nu_s, nu_n, au_au, nu_nu, au_nu]; omega)) (by first | omega | (simp (decide := true) only [au_1, nu_2, au_lt, nu_lt, aw_e, nw_e, au_s, au_n, nu_s, nu_n, au_au, nu_nu, au_nu]; omega)) ?_
      -- at 69: .if_icmp .ge 34
      try simp (decide := true) only [au_1, nu_2, au_lt, nu_lt, aw_e, nw_e, au_s, au_n, nu_s, nu_n, au_au, nu_nu, au_nu]
      try simp (decide := true) only [au_1, nu_2, au_lt, nu_lt, aw_e, nw_e, au_s, au_n, nu_s, nu_n, au_au, nu_nu, au_nu]
      rw [iset_s]
      refine w_icmp_ge (pc' := 72) (tgt := 103) dX1_undo_69 rfl rfl (fun h_ => ?_) (fun h_ => False.elim (by first | omega | (simp (decide := true) only [au_1, nu_2, au_lt, nu_lt, aw_e, nw_e, au_s, au_n, nu_s, nu_n, au_au, nu_nu, au_nu] at h_; omega)))
      refine w_aload_n (pc' := 104) dX1_undo_103 rfl rfl ?_
      refine w_mgi 16 (pc' := 107) dX1_undo_104 rfl fX1_184_1 rfl ?_
      -- at 107: .ireturn
      try simp (decide := true) only [au_1, nu_2, au_lt, nu_lt, aw_e, nw_e, au_s, au_n, nu_s, nu_n, au_au, nu_nu, au_nu]
      try simp (decide := true) only [au_1, nu_2, au_lt, nu_lt, aw_e, nw_e, au_s, au_n, nu_s, nu_n, au_au, nu_nu, au_nu]
      refine w_ireturn dX1_undo_107 rfl ?_
      exact h1 (by omega)
    · refine w_iload_n (pc' := 63) dX1_undo_62 rfl rfl ?_
      refine w_aload_n (pc' := 64) dX1_undo_63 rfl rfl ?_
      refine w_mga 11 (pc' := 67) dX1_undo_64 rfl fX1_40_1 rfl ?_
      refine w_iload_n (pc' := 68) dX1_undo_67 rfl rfl ?_
      refine w_mild (pc' := 69) dX1_undo_68 rfl rfl (by first | omega | (simp (decide := true) only [au_1, nu_2, au_lt, nu_lt, aw_e, nw_e, au_s, au_n, nu_s, nu_n, au_au, nu_nu, au_nu]; omega)) (by first | omega | (simp (decide := true) only [au_1, nu_2, au_lt, nu_lt, aw_e, nw_e, au_s, au_n, nu_s, nu_n, au_au, nu_nu, au_nu]; omega)) ?_
      -- at 69: .if_icmp .ge 34
      try simp (decide := true) only [au_1, nu_2, au_lt, nu_lt, aw_e, nw_e, au_s, au_n, nu_s, nu_n, au_au, nu_nu, au_nu]
      try simp (decide := true) only [au_1, nu_2, au_lt, nu_lt, aw_e, nw_e, au_s, au_n, nu_s, nu_n, au_au, nu_nu, au_nu]
      rw [iset_s]
      refine w_icmp_ge (pc' := 72) (tgt := 103) dX1_undo_69 rfl rfl (fun h_ => False.elim (by first | omega | (simp (decide := true) only [au_1, nu_2, au_lt, nu_lt, aw_e, nw_e, au_s, au_n, nu_s, nu_n, au_au, nu_nu, au_nu] at h_; omega))) (fun h_ => ?_)
      refine w_aload_n (pc' := 73) dX1_undo_72 rfl rfl ?_
      refine w_mga 10 (pc' := 76) dX1_undo_73 rfl fX1_37_1 rfl ?_
      refine w_bipush (pc' := 78) dX1_undo_76 rfl (by decide +kernel) (by decide) ?_
      refine w_iload_n (pc' := 79) dX1_undo_78 rfl rfl ?_
      refine w_imul (pc' := 80) dX1_undo_79 rfl ⟨by first | omega | (simp (decide := true) only [au_1, nu_2, au_lt, nu_lt, aw_e, nw_e, au_s, au_n, nu_s, nu_n, au_au, nu_nu, au_nu]; omega), by first | omega | (simp (decide := true) only [au_1, nu_2, au_lt, nu_lt, aw_e, nw_e, au_s, au_n, nu_s, nu_n, au_au, nu_nu, au_nu]; omega)⟩ ?_
      refine w_iload_n (pc' := 81) dX1_undo_80 rfl rfl ?_
      refine w_iadd (pc' := 82) dX1_undo_81 rfl ⟨by first | omega | (simp (decide := true) only [au_1, nu_2, au_lt, nu_lt, aw_e, nw_e, au_s, au_n, nu_s, nu_n, au_au, nu_nu, au_nu]; omega), by first | omega | (simp (decide := true) only [au_1, nu_2, au_lt, nu_lt, aw_e, nw_e, au_s, au_n, nu_s, nu_n, au_au, nu_nu, au_nu]; omega)⟩ ?_
      refine w_aload_n (pc' := 83) dX1_undo_82 rfl rfl ?_
      refine w_mga 15 (pc' := 86) dX1_undo_83 rfl fX1_49_1 rfl ?_
      refine w_bipush (pc' := 88) dX1_undo_86 rfl (by decide +kernel) (by decide) ?_
      refine w_aload_n (pc' := 89) dX1_undo_88 rfl rfl ?_
      refine w_mgi 17 (pc' := 92) dX1_undo_89 rfl fX1_181_1 rfl ?_
      refine w_imul (pc' := 93) dX1_undo_92 rfl ⟨by first | omega | (simp (decide := true) only [au_1, nu_2, au_lt, nu_lt, aw_e, nw_e, au_s, au_n, nu_s, nu_n, au_au, nu_nu, au_nu]; omega), by first | omega | (simp (decide := true) only [au_1, nu_2, au_lt, nu_lt, aw_e, nw_e, au_s, au_n, nu_s, nu_n, au_au, nu_nu, au_nu]; omega)⟩ ?_
      refine w_iload_n (pc' := 94) dX1_undo_93 rfl rfl ?_
      refine w_iadd (pc' := 95) dX1_undo_94 rfl ⟨by first | omega | (simp (decide := true) only [au_1, nu_2, au_lt, nu_lt, aw_e, nw_e, au_s, au_n, nu_s, nu_n, au_au, nu_nu, au_nu]; omega), by first | omega | (simp (decide := true) only [au_1, nu_2, au_lt, nu_lt, aw_e, nw_e, au_s, au_n, nu_s, nu_n, au_au, nu_nu, au_nu]; omega)⟩ ?_
      refine w_mild (pc' := 96) dX1_undo_95 rfl rfl (by first | omega | (simp (decide := true) only [au_1, nu_2, au_lt, nu_lt, aw_e, nw_e, au_s, au_n, nu_s, nu_n, au_au, nu_nu, au_nu]; omega)) (by first | omega | (simp (decide := true) only [au_1, nu_2, au_lt, nu_lt, aw_e, nw_e, au_s, au_n, nu_s, nu_n, au_au, nu_nu, au_nu]; omega)) ?_
      refine w_aui (pc' := 97) dX1_undo_96 rfl rfl (by first | omega | (simp (decide := true) only [au_1, nu_2, au_lt, nu_lt, aw_e, nw_e, au_s, au_n, nu_s, nu_n, au_au, nu_nu, au_nu]; omega)) (by first | omega | (simp (decide := true) only [au_1, nu_2, au_lt, nu_lt, aw_e, nw_e, au_s, au_n, nu_s, nu_n, au_au, nu_nu, au_nu]; omega)) ?_
      try simp (decide := true) only [au_1, nu_2, au_lt, nu_lt, aw_e, nw_e, au_s, au_n, nu_s, nu_n, au_au, nu_nu, au_nu]
      refine w_inc2 (pc' := 100) dX1_undo_97 rfl rfl ⟨by first | omega | (simp (decide := true) only [au_1, nu_2, au_lt, nu_lt, aw_e, nw_e, au_s, au_n, nu_s, nu_n, au_au, nu_nu, au_nu]; omega), by first | omega | (simp (decide := true) only [au_1, nu_2, au_lt, nu_lt, aw_e, nw_e, au_s, au_n, nu_s, nu_n, au_au, nu_nu, au_nu]; omega)⟩ ?_
      refine w_goto (tgt := 62) dX1_undo_100 rfl ?_
      -- at 62: .iload_n 2
      try simp (decide := true) only [au_1, nu_2, au_lt, nu_lt, aw_e, nw_e, au_s, au_n, nu_s, nu_n, au_au, nu_nu, au_nu]
      refine w_ms ?_ ih
      congr 4
      exact rfill_s' k0 rfl (by exact congrArg (σ.2 15) (by omega))
  · refine w_iconst (pc' := 8) dX1_undo_7 rfl (by decide) ?_
    -- at 8: .ireturn
    try simp (decide := true) only [au_1, nu_2, au_lt, nu_lt, aw_e, nw_e, au_s, au_n, nu_s, nu_n, au_au, nu_nu, au_nu]
    refine w_ireturn dX1_undo_8 rfl ?_
    exact h0 (by omega)
theorem c_X1_sets {p i j c : Int} (hR : rok σ) (hP : pok σ) (hU : uok σ) (hp : 0 ≤ p ∧ p < σ.1 12) (hs : hs_ σ p i j) (h1 : σ.1 9 < 6000 → K (some (xI 1)) (ov (sSet σ p i j c) G0)) (h0 : σ.1 9 = 6000 → K (some (xI 0)) (ov σ G0)) : tvW mX1_sets (d + 2) K 0 [some (xR mR), some (xI p), some (xI i), some (xI j), some (xI c)] [] (ov σ G0) bc bs := by
  obtain ⟨s1, s2, s3, s4⟩ := hs
  have hP0 := hP
  have hR0 := hR
  obtain ⟨⟨m1, m2⟩, hR⟩ := hR
  obtain ⟨⟨p1, p2⟩, hP⟩ := hP
  obtain ⟨hM, hr⟩ := hP p hp.1 hp.2
  obtain ⟨r1, r2⟩ := hr i s1 s2
  obtain ⟨⟨l1, l2⟩, ⟨o1, o2⟩, -⟩ := hR _ r1 r2
  refine w_aload_n (pc' := 1) dX1_sets_0 rfl rfl ?_
  refine w_mgi 9 (pc' := 4) dX1_sets_1 rfl fX1_172_1 rfl ?_
  refine w_sipush (pc' := 7) dX1_sets_4 rfl (by decide +kernel) (by decide) ?_
  -- at 7: .if_icmp .ne 5
  try simp (decide := true) only [au_1, nu_2, au_lt, nu_lt, aw_e, nw_e, au_s, au_n, nu_s, nu_n, au_au, nu_nu, au_nu]
  refine w_icmp_ne (pc' := 10) (tgt := 12) dX1_sets_7 rfl rfl (fun g => ?_) (fun g => ?_)
  · refine w_aload_n (pc' := 13) dX1_sets_12 rfl rfl ?_
    refine w_iload_n (pc' := 14) dX1_sets_13 rfl rfl ?_
    -- at 14: .invokevirtual 190
    try simp (decide := true) only [au_1, nu_2, au_lt, nu_lt, aw_e, nw_e, au_s, au_n, nu_s, nu_n, au_au, nu_nu, au_nu]
    refine w_callV1 (pc' := 17) (mc := 0) (ms := 0) dX1_sets_14 rfl tX1_keep q1298 rfl rfl qs43 q1296 ov_o rfl (Nat.le_of_ble_eq_true rfl) (Nat.le_of_ble_eq_true rfl) ?_
    refine c_X1_keep ⟨hU.1, hU.2.1⟩ ⟨hp.1, by omega⟩ hM ?_
    refine w_p0 ?_
    refine w_aload_n (pc' := 18) dX1_sets_17 rfl rfl ?_
    refine w_iload_n (pc' := 19) dX1_sets_18 rfl rfl ?_
    refine w_iload_n (pc' := 20) dX1_sets_19 rfl rfl ?_
    -- at 20: .invokevirtual 201
    try simp (decide := true) only [au_1, nu_2, au_lt, nu_lt, aw_e, nw_e, au_s, au_n, nu_s, nu_n, au_au, nu_nu, au_nu]
    refine w_callV2 (pc' := 23) (mc := 0) (ms := 0) dX1_sets_20 rfl tX1_own q1337 rfl rfl qs49 q1335 ov_o rfl (Nat.le_of_ble_eq_true rfl) (Nat.le_of_ble_eq_true rfl) ?_
    refine c_X1_own (rok_keep hR0) (show σ.1 9 < 6000 by omega) ⟨hp.1, by omega⟩ ⟨s1, by omega⟩ ⟨r1, r2⟩ ?_
    refine w_p0 ?_
    refine w_aload_n (pc' := 24) dX1_sets_23 rfl rfl ?_
    refine w_mga 8 (pc' := 27) dX1_sets_24 rfl fX1_34_1 rfl ?_
    refine w_aload_n (pc' := 28) dX1_sets_27 rfl rfl ?_
    refine w_iload_n (pc' := 29) dX1_sets_28 rfl rfl ?_
    refine w_iload_n (pc' := 30) dX1_sets_29 rfl rfl ?_
    refine w_iload_n (pc' := 31) dX1_sets_30 rfl rfl ?_
    -- at 31: .invokevirtual 178
    try simp (decide := true) only [au_1, nu_2, au_lt, nu_lt, aw_e, nw_e, au_s, au_n, nu_s, nu_n, au_au, nu_nu, au_nu]
    have ho : rok (sOwn (sKeep σ p) p i) := rok_own (rok_keep hR0) (show σ.1 9 < 6000 by omega) ⟨r1, r2⟩
    have hq : pok (sOwn (sKeep σ p) p i) := pok_own (pok_keep hP0) hp.1 ⟨s1, s2⟩ hM.2 m1
    have e1 : rw_ (sOwn (sKeep σ p) p i) p i = σ.1 9 := by rw [rw_own, if_pos rfl]; rfl
    have e2 : (sOwn (sKeep σ p) p i).2 7 (σ.1 9) = σ.2 7 (rw_ σ p i) := iset_s
    have e3 : (sOwn (sKeep σ p) p i).2 6 (σ.1 9) = σ.2 6 (rw_ σ p i) := iset_s
    refine w_callV3 (pc' := 34) (mc := 0) (ms := 0) dX1_sets_31 rfl tX1_placeOf q1341 rfl rfl qs50 q1339 ov_o rfl (Nat.le_of_ble_eq_true rfl) (Nat.le_of_ble_eq_true rfl) ?_
    refine c_X1_placeOf ho hq hp ⟨s1, s2, by rw [e1, e2]; exact s3, by rw [e1, e2, e3]; exact s4⟩ ?_
    refine w_p1 ?_
    rw [e1, e2]
    refine w_iload (pc' := 36) dX1_sets_34 rfl rfl ?_
    refine w_aui (pc' := 37) dX1_sets_36 rfl rfl (by first | omega | (simp (decide := true) only [au_1, nu_2, au_lt, nu_lt, aw_e, nw_e, au_s, au_n, nu_s, nu_n, au_au, nu_nu, au_nu]; omega)) (by first | omega | (simp (decide := true) only [au_1, nu_2, au_lt, nu_lt, aw_e, nw_e, au_s, au_n, nu_s, nu_n, au_au, nu_nu, au_nu]; omega)) ?_
    try simp (decide := true) only [au_1, nu_2, au_lt, nu_lt, aw_e, nw_e, au_s, au_n, nu_s, nu_n, au_au, nu_nu, au_nu]
    refine w_iconst (pc' := 38) dX1_sets_37 rfl (by decide) ?_
    -- at 38: .ireturn
    try simp (decide := true) only [au_1, nu_2, au_lt, nu_lt, aw_e, nw_e, au_s, au_n, nu_s, nu_n, au_au, nu_nu, au_nu]
    refine w_zreturn dX1_sets_38 rfl (by first | exact Or.inl rfl | exact Or.inr rfl | omega) ?_
    exact h1 (by omega)
  · refine w_iconst (pc' := 11) dX1_sets_10 rfl (by decide) ?_
    -- at 11: .ireturn
    try simp (decide := true) only [au_1, nu_2, au_lt, nu_lt, aw_e, nw_e, au_s, au_n, nu_s, nu_n, au_au, nu_nu, au_nu]
    refine w_zreturn dX1_sets_11 rfl (by first | exact Or.inl rfl | exact Or.inr rfl | omega) ?_
    exact h0 (by omega)
def putOk (σ : MS) (p i j k m : Int) : Prop := (0 ≤ p ∧ p < σ.1 12) ∧ hs_ σ p i j ∧ (k = -1 ∨ (0 ≤ k ∧ k < σ.1 5) ∧ 0 ≤ m ∧ m < 8)
def pcel (σ : MS) (k m : Int) : Int := if k = -1 then 0 else cel k (lie (σ.2 3 k) (σ.2 1 k) m) 0
theorem c_X1_put {p i j k m : Int} (hK : kok σ) (hR : rok σ) (hP : pok σ) (hU : uok σ) (hj : rg j) (h1 : putOk σ p i j k m ∧ σ.1 9 < 6000 → K (some (xI 1)) (ov (sSet σ p i j (pcel σ k m)) G0)) (h0 : ¬ (putOk σ p i j k m ∧ σ.1 9 < 6000) → K (some (xI 0)) (ov σ G0)) : tvW mX1_put (d + 3) K 0 [some (xR mR), some (xI p), some (xI i), some (xI j), some (xI k), some (xI m)] [] (ov σ G0) bc bs := by
  unfold putOk at h0 h1
  have bad : ¬ (((0 ≤ p ∧ p < σ.1 12) ∧ hs_ σ p i j ∧ (k = -1 ∨ (0 ≤ k ∧ k < σ.1 5) ∧ 0 ≤ m ∧ m < 8)) ∧ σ.1 9 < 6000) → tvW mX1_put (d + 3) K 43 [some (xR mR), some (xI p), some (xI i), some (xI j), some (xI k), some (xI m)] [] (ov σ G0) bc bs := by
    intro q
    refine w_iconst (pc' := 44) dX1_put_43 rfl (by decide) ?_
    -- at 44: .ireturn
    try simp (decide := true) only [au_1, nu_2, au_lt, nu_lt, aw_e, nw_e, au_s, au_n, nu_s, nu_n, au_au, nu_nu, au_nu]
    refine w_zreturn dX1_put_44 rfl (by first | exact Or.inl rfl | exact Or.inr rfl | omega) ?_
    exact h0 q
  have hR1 := hR.1
  have fin : ((0 ≤ p ∧ p < σ.1 12) ∧ hs_ σ p i j ∧ (k = -1 ∨ (0 ≤ k ∧ k < σ.1 5) ∧ 0 ≤ m ∧ m < 8)) → tvW mX1_put (d + 3) K 45 [some (xR mR), some (xI p), some (xI i), some (xI j), some (xI k), some (xI m)] [] (ov σ G0) bc bs := by
    intro q
    have hK1 := hK.1
    refine w_aload_n (pc' := 46) dX1_put_45 rfl rfl ?_
    refine w_iload_n (pc' := 47) dX1_put_46 rfl rfl ?_
    refine w_iload_n (pc' := 48) dX1_put_47 rfl rfl ?_
    refine w_iload_n (pc' := 49) dX1_put_48 rfl rfl ?_
    refine w_iload (pc' := 51) dX1_put_49 rfl rfl ?_
    refine w_iconst (pc' := 52) dX1_put_51 rfl (by decide) ?_
    -- at 52: .if_icmp .ne 7
    try simp (decide := true) only [au_1, nu_2, au_lt, nu_lt, aw_e, nw_e, au_s, au_n, nu_s, nu_n, au_au, nu_nu, au_nu]
    refine w_icmp_ne (pc' := 55) (tgt := 59) dX1_put_52 rfl rfl (fun g => ?_) (fun g => ?_)
    · obtain ⟨q1, q2⟩ : (0 ≤ k ∧ k < σ.1 5) ∧ 0 ≤ m ∧ m < 8 := by have := q.2.2; omega
      obtain ⟨-, ht, -⟩ := hK.2 k q1.1 q1.2
      refine w_iload (pc' := 61) dX1_put_59 rfl rfl ?_
      refine w_aload_n (pc' := 62) dX1_put_61 rfl rfl ?_
      refine w_iload (pc' := 64) dX1_put_62 rfl rfl ?_
      refine w_iload (pc' := 66) dX1_put_64 rfl rfl ?_
      -- at 66: .invokevirtual 148
      try simp (decide := true) only [au_1, nu_2, au_lt, nu_lt, aw_e, nw_e, au_s, au_n, nu_s, nu_n, au_au, nu_nu, au_nu]
      refine w_callV2 (pc' := 69) (mc := 0) (ms := 0) dX1_put_66 rfl tX1_lies q1274 rfl rfl qs40 q1272 ov_o rfl (Nat.le_of_ble_eq_true rfl) (Nat.le_of_ble_eq_true rfl) ?_
      refine c_X1_lies ⟨q1.1, by omega⟩ q2 ht ?_
      refine w_p1 ?_
      refine w_iconst (pc' := 70) dX1_put_69 rfl (by decide) ?_
      -- at 70: .invokestatic 166
      try simp (decide := true) only [au_1, nu_2, au_lt, nu_lt, aw_e, nw_e, au_s, au_n, nu_s, nu_n, au_au, nu_nu, au_nu]
      refine w_callS3 (pc' := 73) (mc := 0) (ms := 0) dX1_put_70 rfl tX1_cell q1329 q1328 rfl (Nat.le_of_ble_eq_true rfl) (Nat.le_of_ble_eq_true rfl) ?_
      refine c_X1_cell ⟨q1.1, by omega⟩ (lie_r ht q2.1 q2.2) ⟨by omega, by omega⟩ ?_
      refine w_p1 ?_
      refine w_callV4 (pc' := 76) (mc := 0) (ms := 0) dX1_put_73 rfl tX1_sets q1333 rfl rfl qs48 q1331 ov_o rfl (Nat.le_of_ble_eq_true rfl) (Nat.le_of_ble_eq_true rfl) ?_
      unfold pcel at h1
      rw [if_neg g] at h1
      refine c_X1_sets hR hP hU q.1 q.2.1 (fun a => w_p1 ?_) (fun a => w_p1 ?_)
      · refine w_zreturn dX1_put_76 rfl (by first | exact Or.inl rfl | exact Or.inr rfl | omega) ?_
        exact h1 ⟨q, a⟩
      · refine w_zreturn dX1_put_76 rfl (by first | exact Or.inl rfl | exact Or.inr rfl | omega) ?_
        exact h0 (fun q => by omega)
    · refine w_iconst (pc' := 56) dX1_put_55 rfl (by decide) ?_
      refine w_goto (tgt := 73) dX1_put_56 rfl ?_
      -- at 73: .invokevirtual 208
      try simp (decide := true) only [au_1, nu_2, au_lt, nu_lt, aw_e, nw_e, au_s, au_n, nu_s, nu_n, au_au, nu_nu, au_nu]
      refine w_callV4 (pc' := 76) (mc := 0) (ms := 0) dX1_put_73 rfl tX1_sets q1333 rfl rfl qs48 q1331 ov_o rfl (Nat.le_of_ble_eq_true rfl) (Nat.le_of_ble_eq_true rfl) ?_
      unfold pcel at h1
      rw [if_pos g] at h1
      refine c_X1_sets hR hP hU q.1 q.2.1 (fun a => w_p1 ?_) (fun a => w_p1 ?_)
      · refine w_zreturn dX1_put_76 rfl (by first | exact Or.inl rfl | exact Or.inr rfl | omega) ?_
        exact h1 ⟨q, a⟩
      · refine w_zreturn dX1_put_76 rfl (by first | exact Or.inl rfl | exact Or.inr rfl | omega) ?_
        exact h0 (fun q => by omega)
  refine w_aload_n (pc' := 1) dX1_put_0 rfl rfl ?_
  refine w_iload_n (pc' := 2) dX1_put_1 rfl rfl ?_
  refine w_callV1 (pc' := 5) (mc := 0) (ms := 0) dX1_put_2 rfl tX1_isPattern q1294 rfl rfl qs42 q1292 ov_o rfl (Nat.le_of_ble_eq_true rfl) (Nat.le_of_ble_eq_true rfl) ?_
  refine c_X1_isPattern  (fun g2a g2b => w_p1 ?_) (fun g2 => w_p1 ?_)
  rotate_left
  · refine w_if_eq (pc' := 8) (tgt := 43) dX1_put_5 rfl rfl (fun h_ => ?_) (fun h_ => False.elim (by omega))
    exact bad (by omega)
  refine w_if_eq (pc' := 8) (tgt := 43) dX1_put_5 rfl rfl (fun h_ => False.elim (by omega)) (fun h_ => ?_)
  -- at 8: .aload_n 0
  refine w_aload_n (pc' := 9) dX1_put_8 rfl rfl ?_
  refine w_iload_n (pc' := 10) dX1_put_9 rfl rfl ?_
  refine w_iload_n (pc' := 11) dX1_put_10 rfl rfl ?_
  refine w_i2l (pc' := 12) dX1_put_11 rfl ?_
  refine w_iload_n (pc' := 13) dX1_put_12 rfl rfl ?_
  refine w_i2l (pc' := 14) dX1_put_13 rfl ?_
  refine w_callV3 (pc' := 17) (mc := 0) (ms := 0) dX1_put_14 rfl tX1_has q1326 rfl rfl qs47 q1324 ov_o rfl (Nat.le_of_ble_eq_true rfl) (Nat.le_of_ble_eq_true rfl) ?_
  refine c_X1_has hR hP ⟨g2a, g2b⟩ ⟨by omega, by omega⟩ (fun g14a => w_p1 ?_) (fun g14 => w_p1 ?_)
  rotate_left
  · refine w_if_eq (pc' := 20) (tgt := 43) dX1_put_17 rfl rfl (fun h_ => ?_) (fun h_ => False.elim (by omega))
    exact bad (fun q => g14 q.1.2.1)
  refine w_if_eq (pc' := 20) (tgt := 43) dX1_put_17 rfl rfl (fun h_ => False.elim (by omega)) (fun h_ => ?_)
  -- at 20: .iload 4
  refine w_iload (pc' := 22) dX1_put_20 rfl rfl ?_
  refine w_iconst (pc' := 23) dX1_put_22 rfl (by decide) ?_
  -- at 23: .if_icmp .eq 22
  try simp (decide := true) only [au_1, nu_2, au_lt, nu_lt, aw_e, nw_e, au_s, au_n, nu_s, nu_n, au_au, nu_nu, au_nu]
  refine w_icmp_eq (pc' := 26) (tgt := 45) dX1_put_23 rfl rfl (fun g => ?_) (fun g => ?_)
  · exact fin ⟨⟨g2a, g2b⟩, g14a, Or.inl g⟩
  · refine w_aload_n (pc' := 27) dX1_put_26 rfl rfl ?_
    refine w_iload (pc' := 29) dX1_put_27 rfl rfl ?_
    refine w_callV1 (pc' := 32) (mc := 0) (ms := 0) dX1_put_29 rfl tX1_isKind q1270 rfl rfl qs39 q1268 ov_o rfl (Nat.le_of_ble_eq_true rfl) (Nat.le_of_ble_eq_true rfl) ?_
    refine c_X1_isKind  (fun g29a g29b => w_p1 ?_) (fun g29 => w_p1 ?_)
    rotate_left
    · refine w_if_eq (pc' := 35) (tgt := 43) dX1_put_32 rfl rfl (fun h_ => ?_) (fun h_ => False.elim (by omega))
      exact bad (by omega)
    refine w_if_eq (pc' := 35) (tgt := 43) dX1_put_32 rfl rfl (fun h_ => False.elim (by omega)) (fun h_ => ?_)
    refine w_iload (pc' := 37) dX1_put_35 rfl rfl ?_
    refine w_callS1 (pc' := 40) (mc := 0) (ms := 0) dX1_put_37 rfl tX1_isMove q1259 q1258 rfl (Nat.le_of_ble_eq_true rfl) (Nat.le_of_ble_eq_true rfl) ?_
    refine c_X1_isMove  (fun g37a g37b => w_p1 ?_) (fun g37 => w_p1 ?_)
    rotate_left
    · refine w_if_ne (pc' := 43) (tgt := 45) dX1_put_40 rfl rfl (fun h_ => False.elim (by omega)) (fun h_ => ?_)
      exact bad (by omega)
    refine w_if_ne (pc' := 43) (tgt := 45) dX1_put_40 rfl rfl (fun h_ => ?_) (fun h_ => False.elim (by omega))
    -- at 45: .aload_n 0
    exact fin ⟨⟨g2a, g2b⟩, g14a, Or.inr ⟨⟨g29a, g29b⟩, g37a, g37b⟩⟩
theorem iS_r (x : Int) : -32768 ≤ iS x ∧ iS x ≤ 32767 := by
  unfold iS
  have h1 := (Int32.ofInt x).toInt16.toInt_lt
  have h2 := (Int32.ofInt x).toInt16.le_toInt
  omega
theorem ca_ok {σ : MS} {p i j : Int} (hR : rok σ) (hP : pok σ) (hp : 0 ≤ p ∧ p < σ.1 12) (hs : hs_ σ p i j) : isC (σ.1 5) (ca_ σ p i j) := by
  obtain ⟨s1, s2, s3, s4⟩ := hs
  obtain ⟨r1, r2⟩ := (hP.2 p hp.1 hp.2).2 i s1 s2
  have := (hR.2 _ r1 r2).2.2 (j - σ.2 7 (rw_ σ p i)) (by omega) (by omega)
  unfold ca_
  rwa [show 60 * rw_ σ p i + j - σ.2 7 (rw_ σ p i) = 60 * rw_ σ p i + (j - σ.2 7 (rw_ σ p i)) by omega]
def shdOk (σ : MS) (p i j : Int) : Prop := (0 ≤ p ∧ p < σ.1 12) ∧ hs_ σ p i j ∧ ca_ σ p i j ≠ 0 ∧ σ.1 9 < 6000
theorem c_X1_shade {p i j s : Int} (hK : kok σ) (hR : rok σ) (hP : pok σ) (hU : uok σ) (hj : rg j) (h1 : shdOk σ p i j → K (some (xI 1)) (ov (sSet σ p i j (cel (kOf (ca_ σ p i j)) (mOf (ca_ σ p i j)) (iS s))) G0)) (h0 : ¬ shdOk σ p i j → K (some (xI 0)) (ov σ G0)) : tvW mX1_shade (d + 3) K 0 [some (xR mR), some (xI p), some (xI i), some (xI j), some (xI s), none] [] (ov σ G0) bc bs := by
  unfold shdOk at h0 h1
  have hK1 := hK.1
  have bad : ¬ ((0 ≤ p ∧ p < σ.1 12) ∧ hs_ σ p i j ∧ ca_ σ p i j ≠ 0 ∧ σ.1 9 < 6000) → tvW mX1_shade (d + 3) K 30 [some (xR mR), some (xI p), some (xI i), some (xI j), some (xI s), none] [] (ov σ G0) bc bs := by
    intro q
    refine w_iconst (pc' := 31) dX1_shade_30 rfl (by decide) ?_
    -- at 31: .ireturn
    try simp (decide := true) only [au_1, nu_2, au_lt, nu_lt, aw_e, nw_e, au_s, au_n, nu_s, nu_n, au_au, nu_nu, au_nu]
    refine w_zreturn dX1_shade_31 rfl (by first | exact Or.inl rfl | exact Or.inr rfl | omega) ?_
    exact h0 q
  refine w_aload_n (pc' := 1) dX1_shade_0 rfl rfl ?_
  refine w_iload_n (pc' := 2) dX1_shade_1 rfl rfl ?_
  refine w_callV1 (pc' := 5) (mc := 0) (ms := 0) dX1_shade_2 rfl tX1_isPattern q1294 rfl rfl qs42 q1292 ov_o rfl (Nat.le_of_ble_eq_true rfl) (Nat.le_of_ble_eq_true rfl) ?_
  refine c_X1_isPattern  (fun g2a g2b => w_p1 ?_) (fun g2 => w_p1 ?_)
  rotate_left
  · refine w_if_eq (pc' := 8) (tgt := 30) dX1_shade_5 rfl rfl (fun h_ => ?_) (fun h_ => False.elim (by omega))
    exact bad (by omega)
  refine w_if_eq (pc' := 8) (tgt := 30) dX1_shade_5 rfl rfl (fun h_ => False.elim (by omega)) (fun h_ => ?_)
  -- at 8: .aload_n 0
  refine w_aload_n (pc' := 9) dX1_shade_8 rfl rfl ?_
  refine w_iload_n (pc' := 10) dX1_shade_9 rfl rfl ?_
  refine w_iload_n (pc' := 11) dX1_shade_10 rfl rfl ?_
  refine w_i2l (pc' := 12) dX1_shade_11 rfl ?_
  refine w_iload_n (pc' := 13) dX1_shade_12 rfl rfl ?_
  refine w_i2l (pc' := 14) dX1_shade_13 rfl ?_
  refine w_callV3 (pc' := 17) (mc := 0) (ms := 0) dX1_shade_14 rfl tX1_has q1326 rfl rfl qs47 q1324 ov_o rfl (Nat.le_of_ble_eq_true rfl) (Nat.le_of_ble_eq_true rfl) ?_
  refine c_X1_has hR hP ⟨g2a, g2b⟩ ⟨by omega, by omega⟩ (fun g14a => w_p1 ?_) (fun g14 => w_p1 ?_)
  rotate_left
  · refine w_if_eq (pc' := 20) (tgt := 30) dX1_shade_17 rfl rfl (fun h_ => ?_) (fun h_ => False.elim (by omega))
    exact bad (fun q => g14 q.2.1)
  refine w_if_eq (pc' := 20) (tgt := 30) dX1_shade_17 rfl rfl (fun h_ => False.elim (by omega)) (fun h_ => ?_)
  -- at 20: .aload_n 0
  refine w_aload_n (pc' := 21) dX1_shade_20 rfl rfl ?_
  refine w_iload_n (pc' := 22) dX1_shade_21 rfl rfl ?_
  refine w_iload_n (pc' := 23) dX1_shade_22 rfl rfl ?_
  refine w_iload_n (pc' := 24) dX1_shade_23 rfl rfl ?_
  -- at 24: .invokevirtual 212
  try simp (decide := true) only [au_1, nu_2, au_lt, nu_lt, aw_e, nw_e, au_s, au_n, nu_s, nu_n, au_au, nu_nu, au_nu]
  refine w_callV3 (pc' := 27) (mc := 0) (ms := 0) dX1_shade_24 rfl tX1_cellAt q1349 rfl rfl qs51 q1347 ov_o rfl (Nat.le_of_ble_eq_true rfl) (Nat.le_of_ble_eq_true rfl) ?_
  refine c_X1_cellAt hR hP ⟨g2a, g2b⟩ g14a ?_
  refine w_p1 ?_
  refine w_if_ne (pc' := 30) (tgt := 32) dX1_shade_27 rfl rfl (fun g => ?_) (fun g => ?_)
  · refine w_aload_n (pc' := 33) dX1_shade_32 rfl rfl ?_
    refine w_iload_n (pc' := 34) dX1_shade_33 rfl rfl ?_
    refine w_iload_n (pc' := 35) dX1_shade_34 rfl rfl ?_
    refine w_iload_n (pc' := 36) dX1_shade_35 rfl rfl ?_
    -- at 36: .invokevirtual 212
    try simp (decide := true) only [au_1, nu_2, au_lt, nu_lt, aw_e, nw_e, au_s, au_n, nu_s, nu_n, au_au, nu_nu, au_nu]
    refine w_callV3 (pc' := 39) (mc := 0) (ms := 0) dX1_shade_36 rfl tX1_cellAt q1349 rfl rfl qs51 q1347 ov_o rfl (Nat.le_of_ble_eq_true rfl) (Nat.le_of_ble_eq_true rfl) ?_
    refine c_X1_cellAt hR hP ⟨g2a, g2b⟩ g14a ?_
    refine w_p1 ?_
    refine w_ist5 (pc' := 41) dX1_shade_39 rfl rfl ?_
    refine w_aload_n (pc' := 42) dX1_shade_41 rfl rfl ?_
    refine w_iload_n (pc' := 43) dX1_shade_42 rfl rfl ?_
    refine w_iload_n (pc' := 44) dX1_shade_43 rfl rfl ?_
    refine w_iload_n (pc' := 45) dX1_shade_44 rfl rfl ?_
    refine w_iload (pc' := 47) dX1_shade_45 rfl rfl ?_
    -- at 47: .invokestatic 156
    try simp (decide := true) only [au_1, nu_2, au_lt, nu_lt, aw_e, nw_e, au_s, au_n, nu_s, nu_n, au_au, nu_nu, au_nu]
    refine w_callS1 (pc' := 50) (mc := 0) (ms := 0) dX1_shade_47 rfl tX1_kindOf q1352 q1351 rfl (Nat.le_of_ble_eq_true rfl) (Nat.le_of_ble_eq_true rfl) ?_
    refine c_X1_kindOf ?_
    refine w_p1 ?_
    refine w_iload (pc' := 52) dX1_shade_50 rfl rfl ?_
    -- at 52: .invokestatic 160
    try simp (decide := true) only [au_1, nu_2, au_lt, nu_lt, aw_e, nw_e, au_s, au_n, nu_s, nu_n, au_au, nu_nu, au_nu]
    refine w_callS1 (pc' := 55) (mc := 0) (ms := 0) dX1_shade_52 rfl tX1_moveOf q1356 q1355 rfl (Nat.le_of_ble_eq_true rfl) (Nat.le_of_ble_eq_true rfl) ?_
    refine c_X1_moveOf ?_
    refine w_p1 ?_
    refine w_iload (pc' := 57) dX1_shade_55 rfl rfl ?_
    refine w_i2s (pc' := 58) dX1_shade_57 rfl ?_
    -- at 58: .invokestatic 166
    try simp (decide := true) only [au_1, nu_2, au_lt, nu_lt, aw_e, nw_e, au_s, au_n, nu_s, nu_n, au_au, nu_nu, au_nu]
    have hk := isC_k (ca_ok hR hP ⟨g2a, g2b⟩ g14a) g
    refine w_callS3 (pc' := 61) (mc := 0) (ms := 0) dX1_shade_58 rfl tX1_cell q1329 q1328 rfl (Nat.le_of_ble_eq_true rfl) (Nat.le_of_ble_eq_true rfl) ?_
    refine c_X1_cell ⟨hk.1, by omega⟩ mOf_r (iS_r s) ?_
    refine w_p1 ?_
    refine w_callV4 (pc' := 64) (mc := 0) (ms := 0) dX1_shade_61 rfl tX1_sets q1333 rfl rfl qs48 q1331 ov_o rfl (Nat.le_of_ble_eq_true rfl) (Nat.le_of_ble_eq_true rfl) ?_
    refine c_X1_sets hR hP hU ⟨g2a, g2b⟩ g14a (fun a => w_p1 ?_) (fun a => w_p1 ?_)
    · refine w_zreturn dX1_shade_64 rfl (by first | exact Or.inl rfl | exact Or.inr rfl | omega) ?_
      exact h1 ⟨⟨g2a, g2b⟩, g14a, g, a⟩
    · refine w_zreturn dX1_shade_64 rfl (by first | exact Or.inl rfl | exact Or.inr rfl | omega) ?_
      exact h0 (fun q => by omega)
  · exact bad (fun q => q.2.2.1 g)
theorem c_X1_at {p i j w : Int} (hR : rok σ) (hP : pok σ) (hj : rg j) (h : K (some (xI (aAt σ p i j w))) (ov σ G0)) : tvW mX1_at (d + 3) K 0 [some (xR mR), some (xI p), some (xI i), some (xI j), some (xI w), none, none] [] (ov σ G0) bc bs := by
  unfold aAt at h
  have bad : ¬ ((0 ≤ p ∧ p < σ.1 12) ∧ 0 ≤ w ∧ w ≤ 2) → tvW mX1_at (d + 3) K 19 [some (xR mR), some (xI p), some (xI i), some (xI j), some (xI w), none, none] [] (ov σ G0) bc bs := by
    intro q
    rw [ic_f q] at h
    refine w_iconst (pc' := 20) dX1_at_19 rfl (by decide) ?_
    -- at 20: .ireturn
    try simp (decide := true) only [au_1, nu_2, au_lt, nu_lt, aw_e, nw_e, au_s, au_n, nu_s, nu_n, au_au, nu_nu, au_nu]
    refine w_ireturn dX1_at_20 rfl ?_
    exact h
  refine w_aload_n (pc' := 1) dX1_at_0 rfl rfl ?_
  refine w_iload_n (pc' := 2) dX1_at_1 rfl rfl ?_
  refine w_callV1 (pc' := 5) (mc := 0) (ms := 0) dX1_at_2 rfl tX1_isPattern q1294 rfl rfl qs42 q1292 ov_o rfl (Nat.le_of_ble_eq_true rfl) (Nat.le_of_ble_eq_true rfl) ?_
  refine c_X1_isPattern  (fun g2a g2b => w_p1 ?_) (fun g2 => w_p1 ?_)
  rotate_left
  · refine w_if_eq (pc' := 8) (tgt := 19) dX1_at_5 rfl rfl (fun h_ => ?_) (fun h_ => False.elim (by omega))
    exact bad (by omega)
  refine w_if_eq (pc' := 8) (tgt := 19) dX1_at_5 rfl rfl (fun h_ => False.elim (by omega)) (fun h_ => ?_)
  refine w_iload (pc' := 10) dX1_at_8 rfl rfl ?_
  refine w_if_lt (pc' := 13) (tgt := 19) dX1_at_10 rfl rfl (fun g10 => by exact bad (by omega)) (fun g10 => ?_)
  refine w_iload (pc' := 15) dX1_at_13 rfl rfl ?_
  refine w_iconst (pc' := 16) dX1_at_15 rfl (by decide) ?_
  refine w_icmp_le (pc' := 19) (tgt := 21) dX1_at_16 rfl rfl (fun g16 => ?_) (fun g16 => by exact bad (by omega))
  -- at 21: .aload_n 0
  rw [ic_t ⟨⟨g2a, g2b⟩, by omega, by omega⟩] at h
  refine w_aload_n (pc' := 22) dX1_at_21 rfl rfl ?_
  refine w_iload_n (pc' := 23) dX1_at_22 rfl rfl ?_
  refine w_iload_n (pc' := 24) dX1_at_23 rfl rfl ?_
  refine w_i2l (pc' := 25) dX1_at_24 rfl ?_
  refine w_iload_n (pc' := 26) dX1_at_25 rfl rfl ?_
  refine w_i2l (pc' := 27) dX1_at_26 rfl ?_
  -- at 27: .invokevirtual 204
  try simp (decide := true) only [au_1, nu_2, au_lt, nu_lt, aw_e, nw_e, au_s, au_n, nu_s, nu_n, au_au, nu_nu, au_nu]
  refine w_callV3 (pc' := 30) (mc := 0) (ms := 0) dX1_at_27 rfl tX1_has q1326 rfl rfl qs47 q1324 ov_o rfl (Nat.le_of_ble_eq_true rfl) (Nat.le_of_ble_eq_true rfl) ?_
  refine c_X1_has hR hP ⟨g2a, g2b⟩ ⟨by omega, by omega⟩ (fun a => w_p1 ?_) (fun a => w_p1 ?_)
  · rw [ic_t a] at h
    refine w_ist5 (pc' := 32) dX1_at_30 rfl rfl ?_
    refine w_iload (pc' := 34) dX1_at_32 rfl rfl ?_
    -- at 34: .ifCond .eq 13
    try simp (decide := true) only [au_1, nu_2, au_lt, nu_lt, aw_e, nw_e, au_s, au_n, nu_s, nu_n, au_au, nu_nu, au_nu]
    refine w_if_eq (pc' := 37) (tgt := 47) dX1_at_34 rfl rfl (fun h_ => False.elim (by first | omega | (simp (decide := true) only [au_1, nu_2, au_lt, nu_lt, aw_e, nw_e, au_s, au_n, nu_s, nu_n, au_au, nu_nu, au_nu] at h_; omega))) (fun h_ => ?_)
    refine w_aload_n (pc' := 38) dX1_at_37 rfl rfl ?_
    refine w_iload_n (pc' := 39) dX1_at_38 rfl rfl ?_
    refine w_iload_n (pc' := 40) dX1_at_39 rfl rfl ?_
    refine w_iload_n (pc' := 41) dX1_at_40 rfl rfl ?_
    -- at 41: .invokevirtual 212
    try simp (decide := true) only [au_1, nu_2, au_lt, nu_lt, aw_e, nw_e, au_s, au_n, nu_s, nu_n, au_au, nu_nu, au_nu]
    refine w_callV3 (pc' := 44) (mc := 0) (ms := 0) dX1_at_41 rfl tX1_cellAt q1349 rfl rfl qs51 q1347 ov_o rfl (Nat.le_of_ble_eq_true rfl) (Nat.le_of_ble_eq_true rfl) ?_
    refine c_X1_cellAt hR hP ⟨g2a, g2b⟩ a ?_
    refine w_p1 ?_
    refine w_mok (fun _ hok => ?_)
    have hr : rg (ca_ σ p i j) := hok 8 0 360000 rfl _
    generalize ca_ σ p i j = c at *
    unfold cdat at h
    refine w_goto (tgt := 48) dX1_at_44 rfl ?_
    refine w_ist6 (pc' := 50) dX1_at_48 rfl rfl ?_
    refine w_iload (pc' := 52) dX1_at_50 rfl rfl ?_
    -- at 52: .ifCond .ne 28
    try simp (decide := true) only [au_1, nu_2, au_lt, nu_lt, aw_e, nw_e, au_s, au_n, nu_s, nu_n, au_au, nu_nu, au_nu]
    refine w_if_ne (pc' := 55) (tgt := 80) dX1_at_52 rfl rfl (fun g => ?_) (fun g => ?_)
    · rw [if_neg g] at h
      refine w_iload (pc' := 82) dX1_at_80 rfl rfl ?_
      -- at 82: .ifCond .ne 7
      try simp (decide := true) only [au_1, nu_2, au_lt, nu_lt, aw_e, nw_e, au_s, au_n, nu_s, nu_n, au_au, nu_nu, au_nu]
      refine w_if_ne (pc' := 85) (tgt := 89) dX1_at_82 rfl rfl (fun g2 => ?_) (fun g2 => ?_)
      · rw [if_neg g2] at h
        refine w_iload (pc' := 91) dX1_at_89 rfl rfl ?_
        refine w_iconst (pc' := 92) dX1_at_91 rfl (by decide) ?_
        -- at 92: .if_icmp .ne 11
        try simp (decide := true) only [au_1, nu_2, au_lt, nu_lt, aw_e, nw_e, au_s, au_n, nu_s, nu_n, au_au, nu_nu, au_nu]
        refine w_icmp_ne (pc' := 95) (tgt := 103) dX1_at_92 rfl rfl (fun g3 => ?_) (fun g3 => ?_)
        · rw [if_neg g3] at h
          refine w_iload (pc' := 105) dX1_at_103 rfl rfl ?_
          -- at 105: .invokestatic 163
          try simp (decide := true) only [au_1, nu_2, au_lt, nu_lt, aw_e, nw_e, au_s, au_n, nu_s, nu_n, au_au, nu_nu, au_nu]
          refine w_callS1 (pc' := 108) (mc := 0) (ms := 0) dX1_at_105 rfl tX1_shadeOf q1363 q1362 rfl (Nat.le_of_ble_eq_true rfl) (Nat.le_of_ble_eq_true rfl) ?_
          refine c_X1_shadeOf hr ?_
          refine w_p1 ?_
          refine w_ireturn dX1_at_108 rfl ?_
          exact h
        · rw [if_pos g3] at h
          refine w_iload (pc' := 97) dX1_at_95 rfl rfl ?_
          -- at 97: .invokestatic 160
          try simp (decide := true) only [au_1, nu_2, au_lt, nu_lt, aw_e, nw_e, au_s, au_n, nu_s, nu_n, au_au, nu_nu, au_nu]
          refine w_callS1 (pc' := 100) (mc := 0) (ms := 0) dX1_at_97 rfl tX1_moveOf q1356 q1355 rfl (Nat.le_of_ble_eq_true rfl) (Nat.le_of_ble_eq_true rfl) ?_
          refine c_X1_moveOf ?_
          refine w_p1 ?_
          refine w_goto (tgt := 108) dX1_at_100 rfl ?_
          -- at 108: .ireturn
          try simp (decide := true) only [au_1, nu_2, au_lt, nu_lt, aw_e, nw_e, au_s, au_n, nu_s, nu_n, au_au, nu_nu, au_nu]
          refine w_ireturn dX1_at_108 rfl ?_
          exact h
      · rw [if_pos g2] at h
        refine w_iconst (pc' := 86) dX1_at_85 rfl (by decide) ?_
        refine w_goto (tgt := 108) dX1_at_86 rfl ?_
        -- at 108: .ireturn
        try simp (decide := true) only [au_1, nu_2, au_lt, nu_lt, aw_e, nw_e, au_s, au_n, nu_s, nu_n, au_au, nu_nu, au_nu]
        refine w_ireturn dX1_at_108 rfl ?_
        exact h
    · rw [if_pos g] at h
      refine w_iload (pc' := 57) dX1_at_55 rfl rfl ?_
      -- at 57: .ifCond .ne 8
      try simp (decide := true) only [au_1, nu_2, au_lt, nu_lt, aw_e, nw_e, au_s, au_n, nu_s, nu_n, au_au, nu_nu, au_nu]
      refine w_if_ne (pc' := 60) (tgt := 65) dX1_at_57 rfl rfl (fun h_ => ?_) (fun h_ => False.elim (by first | omega | (simp (decide := true) only [au_1, nu_2, au_lt, nu_lt, aw_e, nw_e, au_s, au_n, nu_s, nu_n, au_au, nu_nu, au_nu] at h_; omega)))
      refine w_iload (pc' := 67) dX1_at_65 rfl rfl ?_
      -- at 67: .ifCond .ne 7
      try simp (decide := true) only [au_1, nu_2, au_lt, nu_lt, aw_e, nw_e, au_s, au_n, nu_s, nu_n, au_au, nu_nu, au_nu]
      refine w_if_ne (pc' := 70) (tgt := 74) dX1_at_67 rfl rfl (fun g2 => ?_) (fun g2 => ?_)
      · rw [if_neg g2] at h
        refine w_iload (pc' := 76) dX1_at_74 rfl rfl ?_
        -- at 76: .invokestatic 156
        try simp (decide := true) only [au_1, nu_2, au_lt, nu_lt, aw_e, nw_e, au_s, au_n, nu_s, nu_n, au_au, nu_nu, au_nu]
        refine w_callS1 (pc' := 79) (mc := 0) (ms := 0) dX1_at_76 rfl tX1_kindOf q1352 q1351 rfl (Nat.le_of_ble_eq_true rfl) (Nat.le_of_ble_eq_true rfl) ?_
        refine c_X1_kindOf ?_
        refine w_p1 ?_
        refine w_ireturn dX1_at_79 rfl ?_
        exact h
      · rw [if_pos g2] at h
        refine w_iconst (pc' := 71) dX1_at_70 rfl (by decide) ?_
        refine w_goto (tgt := 79) dX1_at_71 rfl ?_
        -- at 79: .ireturn
        try simp (decide := true) only [au_1, nu_2, au_lt, nu_lt, aw_e, nw_e, au_s, au_n, nu_s, nu_n, au_au, nu_nu, au_nu]
        refine w_ireturn dX1_at_79 rfl ?_
        exact h
  · rw [ic_f a] at h
    refine w_ist5 (pc' := 32) dX1_at_30 rfl rfl ?_
    refine w_iload (pc' := 34) dX1_at_32 rfl rfl ?_
    -- at 34: .ifCond .eq 13
    try simp (decide := true) only [au_1, nu_2, au_lt, nu_lt, aw_e, nw_e, au_s, au_n, nu_s, nu_n, au_au, nu_nu, au_nu]
    refine w_if_eq (pc' := 37) (tgt := 47) dX1_at_34 rfl rfl (fun h_ => ?_) (fun h_ => False.elim (by first | omega | (simp (decide := true) only [au_1, nu_2, au_lt, nu_lt, aw_e, nw_e, au_s, au_n, nu_s, nu_n, au_au, nu_nu, au_nu] at h_; omega)))
    refine w_iconst (pc' := 48) dX1_at_47 rfl (by decide) ?_
    refine w_ist6 (pc' := 50) dX1_at_48 rfl rfl ?_
    refine w_iload (pc' := 52) dX1_at_50 rfl rfl ?_
    -- at 52: .ifCond .ne 28
    try simp (decide := true) only [au_1, nu_2, au_lt, nu_lt, aw_e, nw_e, au_s, au_n, nu_s, nu_n, au_au, nu_nu, au_nu]
    refine w_if_ne (pc' := 55) (tgt := 80) dX1_at_52 rfl rfl (fun g => ?_) (fun g => ?_)
    · rw [if_neg g] at h
      refine w_iload (pc' := 82) dX1_at_80 rfl rfl ?_
      -- at 82: .ifCond .ne 7
      try simp (decide := true) only [au_1, nu_2, au_lt, nu_lt, aw_e, nw_e, au_s, au_n, nu_s, nu_n, au_au, nu_nu, au_nu]
      refine w_if_ne (pc' := 85) (tgt := 89) dX1_at_82 rfl rfl (fun h_ => False.elim (by first | omega | (simp (decide := true) only [au_1, nu_2, au_lt, nu_lt, aw_e, nw_e, au_s, au_n, nu_s, nu_n, au_au, nu_nu, au_nu] at h_; omega))) (fun h_ => ?_)
      refine w_iconst (pc' := 86) dX1_at_85 rfl (by decide) ?_
      refine w_goto (tgt := 108) dX1_at_86 rfl ?_
      -- at 108: .ireturn
      try simp (decide := true) only [au_1, nu_2, au_lt, nu_lt, aw_e, nw_e, au_s, au_n, nu_s, nu_n, au_au, nu_nu, au_nu]
      refine w_ireturn dX1_at_108 rfl ?_
      exact h
    · rw [if_pos g] at h
      refine w_iload (pc' := 57) dX1_at_55 rfl rfl ?_
      -- at 57: .ifCond .ne 8
      try simp (decide := true) only [au_1, nu_2, au_lt, nu_lt, aw_e, nw_e, au_s, au_n, nu_s, nu_n, au_au, nu_nu, au_nu]
      refine w_if_ne (pc' := 60) (tgt := 65) dX1_at_57 rfl rfl (fun h_ => False.elim (by first | omega | (simp (decide := true) only [au_1, nu_2, au_lt, nu_lt, aw_e, nw_e, au_s, au_n, nu_s, nu_n, au_au, nu_nu, au_nu] at h_; omega))) (fun h_ => ?_)
      refine w_bipush (pc' := 62) dX1_at_60 rfl (by decide +kernel) (by decide) ?_
      refine w_goto (tgt := 79) dX1_at_62 rfl ?_
      -- at 79: .ireturn
      try simp (decide := true) only [au_1, nu_2, au_lt, nu_lt, aw_e, nw_e, au_s, au_n, nu_s, nu_n, au_au, nu_nu, au_nu]
      refine w_ireturn dX1_at_79 rfl ?_
      exact h
theorem c_X1_row {p i w : Int} (hR : rok σ) (hP : pok σ) (h : K (some (xI (aRow σ p i w))) (ov σ G0)) : tvW mX1_row (d + 1) K 0 [some (xR mR), some (xI p), some (xI i), some (xI w), none, none, none, none] [] (ov σ G0) bc bs := by
  obtain ⟨⟨p1, p2⟩, hP⟩ := hP
  have hR1 := hR.1
  unfold aRow at h
  have bad : ¬ ((0 ≤ p ∧ p < σ.1 12) ∧ (0 ≤ i ∧ i < σ.2 11 p) ∧ 0 ≤ w ∧ w ≤ 2) → tvW mX1_row (d + 1) K 31 [some (xR mR), some (xI p), some (xI i), some (xI w), none, none, none, none] [] (ov σ G0) bc bs := by
    intro q
    rw [ic_f q] at h
    refine w_iconst (pc' := 32) dX1_row_31 rfl (by decide) ?_
    -- at 32: .ireturn
    try simp (decide := true) only [au_1, nu_2, au_lt, nu_lt, aw_e, nw_e, au_s, au_n, nu_s, nu_n, au_au, nu_nu, au_nu]
    refine w_ireturn dX1_row_32 rfl ?_
    exact h
  refine w_aload_n (pc' := 1) dX1_row_0 rfl rfl ?_
  refine w_iload_n (pc' := 2) dX1_row_1 rfl rfl ?_
  refine w_callV1 (pc' := 5) (mc := 0) (ms := 0) dX1_row_2 rfl tX1_isPattern q1294 rfl rfl qs42 q1292 ov_o rfl (Nat.le_of_ble_eq_true rfl) (Nat.le_of_ble_eq_true rfl) ?_
  refine c_X1_isPattern  (fun g2a g2b => w_p1 ?_) (fun g2 => w_p1 ?_)
  rotate_left
  · refine w_if_eq (pc' := 8) (tgt := 31) dX1_row_5 rfl rfl (fun h_ => ?_) (fun h_ => False.elim (by omega))
    exact bad (by omega)
  refine w_if_eq (pc' := 8) (tgt := 31) dX1_row_5 rfl rfl (fun h_ => False.elim (by omega)) (fun h_ => ?_)
  refine w_iload_n (pc' := 9) dX1_row_8 rfl rfl ?_
  refine w_if_lt (pc' := 12) (tgt := 31) dX1_row_9 rfl rfl (fun g9 => by exact bad (by omega)) (fun g9 => ?_)
  refine w_iload_n (pc' := 13) dX1_row_12 rfl rfl ?_
  refine w_aload_n (pc' := 14) dX1_row_13 rfl rfl ?_
  refine w_mga 11 (pc' := 17) dX1_row_14 rfl fX1_40_1 rfl ?_
  refine w_iload_n (pc' := 18) dX1_row_17 rfl rfl ?_
  refine w_mild (pc' := 19) dX1_row_18 rfl rfl (by first | omega | (simp (decide := true) only [au_1, nu_2, au_lt, nu_lt, aw_e, nw_e, au_s, au_n, nu_s, nu_n, au_au, nu_nu, au_nu]; omega)) (by first | omega | (simp (decide := true) only [au_1, nu_2, au_lt, nu_lt, aw_e, nw_e, au_s, au_n, nu_s, nu_n, au_au, nu_nu, au_nu]; omega)) ?_
  refine w_icmp_ge (pc' := 22) (tgt := 31) dX1_row_19 rfl rfl (fun g19 => by exact bad (by omega)) (fun g19 => ?_)
  refine w_iload_n (pc' := 23) dX1_row_22 rfl rfl ?_
  refine w_if_lt (pc' := 26) (tgt := 31) dX1_row_23 rfl rfl (fun g23 => by exact bad (by omega)) (fun g23 => ?_)
  refine w_iload_n (pc' := 27) dX1_row_26 rfl rfl ?_
  refine w_iconst (pc' := 28) dX1_row_27 rfl (by decide) ?_
  refine w_icmp_le (pc' := 31) (tgt := 33) dX1_row_28 rfl rfl (fun g28 => ?_) (fun g28 => by exact bad (by omega))
  -- at 33: .aload_n 0
  rw [ic_t ⟨⟨g2a, g2b⟩, ⟨by omega, by omega⟩, by omega, by omega⟩] at h
  have hM := (hP p g2a g2b).1
  obtain ⟨r1, r2⟩ := (hP p g2a g2b).2 i (by omega) (by omega)
  refine w_aload_n (pc' := 34) dX1_row_33 rfl rfl ?_
  refine w_iload_n (pc' := 35) dX1_row_34 rfl rfl ?_
  refine w_iload_n (pc' := 36) dX1_row_35 rfl rfl ?_
  -- at 36: .invokevirtual 175
  try simp (decide := true) only [au_1, nu_2, au_lt, nu_lt, aw_e, nw_e, au_s, au_n, nu_s, nu_n, au_au, nu_nu, au_nu]
  refine w_callV2 (pc' := 39) (mc := 0) (ms := 0) dX1_row_36 rfl tX1_rowOf q1302 rfl rfl qs44 q1300 ov_o rfl (Nat.le_of_ble_eq_true rfl) (Nat.le_of_ble_eq_true rfl) ?_
  refine c_X1_rowOf ⟨g2a, by omega⟩ ⟨by omega, by omega⟩ ?_
  refine w_p1 ?_
  generalize rw_ σ p i = r at *
  refine w_ist4 (pc' := 41) dX1_row_39 rfl rfl ?_
  refine w_iload_n (pc' := 42) dX1_row_41 rfl rfl ?_
  refine w_iconst (pc' := 43) dX1_row_42 rfl (by decide) ?_
  -- at 43: .if_icmp .ge 25
  try simp (decide := true) only [au_1, nu_2, au_lt, nu_lt, aw_e, nw_e, au_s, au_n, nu_s, nu_n, au_au, nu_nu, au_nu]
  refine w_icmp_ge (pc' := 46) (tgt := 68) dX1_row_43 rfl rfl (fun g => ?_) (fun g => ?_)
  · rw [if_neg (by omega), if_neg (by omega)] at h
    refine w_iconst (pc' := 69) dX1_row_68 rfl (by decide) ?_
    refine w_ist5 (pc' := 71) dX1_row_69 rfl rfl ?_
    refine w_iconst (pc' := 72) dX1_row_71 rfl (by decide) ?_
    refine w_ist6 (pc' := 74) dX1_row_72 rfl rfl ?_
    -- at 74: .iload 6
    try simp (decide := true) only [au_1, nu_2, au_lt, nu_lt, aw_e, nw_e, au_s, au_n, nu_s, nu_n, au_au, nu_nu, au_nu]
    have hb : ∀ q, 0 ≤ q → q < σ.1 12 → 0 ≤ sm (fun k => b1 (rw_ σ q k = r)) (σ.2 11 q) ∧ sm (fun k => b1 (rw_ σ q k = r)) (σ.2 11 q) ≤ 60 := by
      intro q q0 q1
      have hq := (hP q q0 q1).1
      have := sm_r (f := fun k => b1 (rw_ σ q k = r)) 1 hq.1 (fun _ _ _ => b1_r _)
      omega
    refine up (T := fun q => ∀ x : Option XV, 0 ≤ sm (fun q => sm (fun k => b1 (rw_ σ q k = r)) (σ.2 11 q)) q → sm (fun q => sm (fun k => b1 (rw_ σ q k = r)) (σ.2 11 q)) q ≤ 60 * q → tvW mX1_row (d + 1) K 74 [some (xR mR), some (xI p), some (xI i), some (xI w), some (xI r), some (xI (sm (fun q => sm (fun k => b1 (rw_ σ q k = r)) (σ.2 11 q)) q)), some (xI q), x] [] (ov σ G0) bc bs) (σ.1 12) p1 (fun x _ _ => ?_) (fun q q0 q1 ih x b0 b1' => ?_) none (Int.le_refl _) (Int.le_refl _)
    · refine w_iload (pc' := 76) dX1_row_74 rfl rfl ?_
      refine w_aload_n (pc' := 77) dX1_row_76 rfl rfl ?_
      refine w_mgi 12 (pc' := 80) dX1_row_77 rfl fX1_169_1 rfl ?_
      -- at 80: .if_icmp .ge 53
      try simp (decide := true) only [au_1, nu_2, au_lt, nu_lt, aw_e, nw_e, au_s, au_n, nu_s, nu_n, au_au, nu_nu, au_nu]
      refine w_icmp_ge (pc' := 83) (tgt := 133) dX1_row_80 rfl rfl (fun h_ => ?_) (fun h_ => False.elim (by first | omega | (simp (decide := true) only [au_1, nu_2, au_lt, nu_lt, aw_e, nw_e, au_s, au_n, nu_s, nu_n, au_au, nu_nu, au_nu] at h_; omega)))
      refine w_iload (pc' := 135) dX1_row_133 rfl rfl ?_
      -- at 135: .ireturn
      try simp (decide := true) only [au_1, nu_2, au_lt, nu_lt, aw_e, nw_e, au_s, au_n, nu_s, nu_n, au_au, nu_nu, au_nu]
      refine w_ireturn dX1_row_135 rfl ?_
      exact h
    · rw [sm_s q0] at ih
      have hq := hb q q0 q1
      have hM3 := (hP q q0 q1).1
      generalize sm (fun q => sm (fun k => b1 (rw_ σ q k = r)) (σ.2 11 q)) q = A at *
      refine w_iload (pc' := 76) dX1_row_74 rfl rfl ?_
      refine w_aload_n (pc' := 77) dX1_row_76 rfl rfl ?_
      refine w_mgi 12 (pc' := 80) dX1_row_77 rfl fX1_169_1 rfl ?_
      -- at 80: .if_icmp .ge 53
      try simp (decide := true) only [au_1, nu_2, au_lt, nu_lt, aw_e, nw_e, au_s, au_n, nu_s, nu_n, au_au, nu_nu, au_nu]
      refine w_icmp_ge (pc' := 83) (tgt := 133) dX1_row_80 rfl rfl (fun h_ => False.elim (by first | omega | (simp (decide := true) only [au_1, nu_2, au_lt, nu_lt, aw_e, nw_e, au_s, au_n, nu_s, nu_n, au_au, nu_nu, au_nu] at h_; omega))) (fun h_ => ?_)
      refine w_iconst (pc' := 84) dX1_row_83 rfl (by decide) ?_
      refine w_ist7 (pc' := 86) dX1_row_84 rfl rfl ?_
      -- at 86: .iload 7
      try simp (decide := true) only [au_1, nu_2, au_lt, nu_lt, aw_e, nw_e, au_s, au_n, nu_s, nu_n, au_au, nu_nu, au_nu]
      refine w_L (L' := [some (xR mR), some (xI p), some (xI i), some (xI w), some (xI r), some (xI (A + sm (fun k => b1 (rw_ σ q k = r)) 0)), some (xI q), some (xI 0)]) (by rw [sm_0, Int.add_zero]) ?_
      refine up (T := fun k => tvW mX1_row (d + 1) K 86 [some (xR mR), some (xI p), some (xI i), some (xI w), some (xI r), some (xI (A + sm (fun k => b1 (rw_ σ q k = r)) k)), some (xI q), some (xI k)] [] (ov σ G0) bc bs) (σ.2 11 q) hM3.1 ?_ (fun k k0 k1 ih2 => ?_)
      · refine w_iload (pc' := 88) dX1_row_86 rfl rfl ?_
        refine w_aload_n (pc' := 89) dX1_row_88 rfl rfl ?_
        refine w_mga 11 (pc' := 92) dX1_row_89 rfl fX1_40_1 rfl ?_
        refine w_iload (pc' := 94) dX1_row_92 rfl rfl ?_
        refine w_mild (pc' := 95) dX1_row_94 rfl rfl (by first | omega | (simp (decide := true) only [au_1, nu_2, au_lt, nu_lt, aw_e, nw_e, au_s, au_n, nu_s, nu_n, au_au, nu_nu, au_nu]; omega)) (by first | omega | (simp (decide := true) only [au_1, nu_2, au_lt, nu_lt, aw_e, nw_e, au_s, au_n, nu_s, nu_n, au_au, nu_nu, au_nu]; omega)) ?_
        -- at 95: .if_icmp .ge 32
        try simp (decide := true) only [au_1, nu_2, au_lt, nu_lt, aw_e, nw_e, au_s, au_n, nu_s, nu_n, au_au, nu_nu, au_nu]
        refine w_icmp_ge (pc' := 98) (tgt := 127) dX1_row_95 rfl rfl (fun h_ => ?_) (fun h_ => False.elim (by first | omega | (simp (decide := true) only [au_1, nu_2, au_lt, nu_lt, aw_e, nw_e, au_s, au_n, nu_s, nu_n, au_au, nu_nu, au_nu] at h_; omega)))
        refine w_inc6 (pc' := 130) dX1_row_127 rfl rfl ⟨by first | omega | (simp (decide := true) only [au_1, nu_2, au_lt, nu_lt, aw_e, nw_e, au_s, au_n, nu_s, nu_n, au_au, nu_nu, au_nu]; omega), by first | omega | (simp (decide := true) only [au_1, nu_2, au_lt, nu_lt, aw_e, nw_e, au_s, au_n, nu_s, nu_n, au_au, nu_nu, au_nu]; omega)⟩ ?_
        refine w_goto (tgt := 74) dX1_row_130 rfl ?_
        -- at 74: .iload 6
        try simp (decide := true) only [au_1, nu_2, au_lt, nu_lt, aw_e, nw_e, au_s, au_n, nu_s, nu_n, au_au, nu_nu, au_nu]
        exact ih _ (by omega) (by omega)
      · have hk := sm_r (f := fun k => b1 (rw_ σ q k = r)) 1 k0 (fun _ _ _ => b1_r _)
        rw [sm_s k0] at ih2
        refine w_iload (pc' := 88) dX1_row_86 rfl rfl ?_
        refine w_aload_n (pc' := 89) dX1_row_88 rfl rfl ?_
        refine w_mga 11 (pc' := 92) dX1_row_89 rfl fX1_40_1 rfl ?_
        refine w_iload (pc' := 94) dX1_row_92 rfl rfl ?_
        refine w_mild (pc' := 95) dX1_row_94 rfl rfl (by first | omega | (simp (decide := true) only [au_1, nu_2, au_lt, nu_lt, aw_e, nw_e, au_s, au_n, nu_s, nu_n, au_au, nu_nu, au_nu]; omega)) (by first | omega | (simp (decide := true) only [au_1, nu_2, au_lt, nu_lt, aw_e, nw_e, au_s, au_n, nu_s, nu_n, au_au, nu_nu, au_nu]; omega)) ?_
        -- at 95: .if_icmp .ge 32
        try simp (decide := true) only [au_1, nu_2, au_lt, nu_lt, aw_e, nw_e, au_s, au_n, nu_s, nu_n, au_au, nu_nu, au_nu]
        refine w_icmp_ge (pc' := 98) (tgt := 127) dX1_row_95 rfl rfl (fun h_ => False.elim (by first | omega | (simp (decide := true) only [au_1, nu_2, au_lt, nu_lt, aw_e, nw_e, au_s, au_n, nu_s, nu_n, au_au, nu_nu, au_nu] at h_; omega))) (fun h_ => ?_)
        refine w_iload (pc' := 100) dX1_row_98 rfl rfl ?_
        refine w_aload_n (pc' := 101) dX1_row_100 rfl rfl ?_
        refine w_iload (pc' := 103) dX1_row_101 rfl rfl ?_
        refine w_iload (pc' := 105) dX1_row_103 rfl rfl ?_
        -- at 105: .invokevirtual 175
        try simp (decide := true) only [au_1, nu_2, au_lt, nu_lt, aw_e, nw_e, au_s, au_n, nu_s, nu_n, au_au, nu_nu, au_nu]
        refine w_callV2 (pc' := 108) (mc := 0) (ms := 0) dX1_row_105 rfl tX1_rowOf q1302 rfl rfl qs44 q1300 ov_o rfl (Nat.le_of_ble_eq_true rfl) (Nat.le_of_ble_eq_true rfl) ?_
        refine c_X1_rowOf ⟨q0, by omega⟩ ⟨k0, by omega⟩ ?_
        refine w_p1 ?_
        refine w_iload (pc' := 110) dX1_row_108 rfl rfl ?_
        -- at 110: .if_icmp .ne 7
        try simp (decide := true) only [au_1, nu_2, au_lt, nu_lt, aw_e, nw_e, au_s, au_n, nu_s, nu_n, au_au, nu_nu, au_nu]
        refine w_icmp_ne (pc' := 113) (tgt := 117) dX1_row_110 rfl rfl (fun g3 => ?_) (fun g3 => ?_)
        · rw [b1_f g3] at ih2
          refine w_iconst (pc' := 118) dX1_row_117 rfl (by decide) ?_
          refine w_iadd (pc' := 119) dX1_row_118 rfl ⟨by first | omega | (simp (decide := true) only [au_1, nu_2, au_lt, nu_lt, aw_e, nw_e, au_s, au_n, nu_s, nu_n, au_au, nu_nu, au_nu]; omega), by first | omega | (simp (decide := true) only [au_1, nu_2, au_lt, nu_lt, aw_e, nw_e, au_s, au_n, nu_s, nu_n, au_au, nu_nu, au_nu]; omega)⟩ ?_
          refine w_ist5 (pc' := 121) dX1_row_119 rfl rfl ?_
          refine w_inc7 (pc' := 124) dX1_row_121 rfl rfl ⟨by first | omega | (simp (decide := true) only [au_1, nu_2, au_lt, nu_lt, aw_e, nw_e, au_s, au_n, nu_s, nu_n, au_au, nu_nu, au_nu]; omega), by first | omega | (simp (decide := true) only [au_1, nu_2, au_lt, nu_lt, aw_e, nw_e, au_s, au_n, nu_s, nu_n, au_au, nu_nu, au_nu]; omega)⟩ ?_
          refine w_goto (tgt := 86) dX1_row_124 rfl ?_
          -- at 86: .iload 7
          try simp (decide := true) only [au_1, nu_2, au_lt, nu_lt, aw_e, nw_e, au_s, au_n, nu_s, nu_n, au_au, nu_nu, au_nu]
          rw [Int.add_assoc]
          exact ih2
        · rw [b1_t g3] at ih2
          refine w_iconst (pc' := 114) dX1_row_113 rfl (by decide) ?_
          refine w_goto (tgt := 118) dX1_row_114 rfl ?_
          refine w_iadd (pc' := 119) dX1_row_118 rfl ⟨by first | omega | (simp (decide := true) only [au_1, nu_2, au_lt, nu_lt, aw_e, nw_e, au_s, au_n, nu_s, nu_n, au_au, nu_nu, au_nu]; omega), by first | omega | (simp (decide := true) only [au_1, nu_2, au_lt, nu_lt, aw_e, nw_e, au_s, au_n, nu_s, nu_n, au_au, nu_nu, au_nu]; omega)⟩ ?_
          refine w_ist5 (pc' := 121) dX1_row_119 rfl rfl ?_
          refine w_inc7 (pc' := 124) dX1_row_121 rfl rfl ⟨by first | omega | (simp (decide := true) only [au_1, nu_2, au_lt, nu_lt, aw_e, nw_e, au_s, au_n, nu_s, nu_n, au_au, nu_nu, au_nu]; omega), by first | omega | (simp (decide := true) only [au_1, nu_2, au_lt, nu_lt, aw_e, nw_e, au_s, au_n, nu_s, nu_n, au_au, nu_nu, au_nu]; omega)⟩ ?_
          refine w_goto (tgt := 86) dX1_row_124 rfl ?_
          -- at 86: .iload 7
          try simp (decide := true) only [au_1, nu_2, au_lt, nu_lt, aw_e, nw_e, au_s, au_n, nu_s, nu_n, au_au, nu_nu, au_nu]
          rw [Int.add_assoc]
          exact ih2
  · refine w_iload_n (pc' := 47) dX1_row_46 rfl rfl ?_
    -- at 47: .ifCond .ne 13
    try simp (decide := true) only [au_1, nu_2, au_lt, nu_lt, aw_e, nw_e, au_s, au_n, nu_s, nu_n, au_au, nu_nu, au_nu]
    refine w_if_ne (pc' := 50) (tgt := 60) dX1_row_47 rfl rfl (fun g2 => ?_) (fun g2 => ?_)
    · rw [if_neg g2, if_pos (by omega)] at h
      refine w_aload_n (pc' := 61) dX1_row_60 rfl rfl ?_
      refine w_mga 7 (pc' := 64) dX1_row_61 rfl fX1_30_1 rfl ?_
      refine w_iload (pc' := 66) dX1_row_64 rfl rfl ?_
      refine w_mild (pc' := 67) dX1_row_66 rfl rfl (by first | omega | (simp (decide := true) only [au_1, nu_2, au_lt, nu_lt, aw_e, nw_e, au_s, au_n, nu_s, nu_n, au_au, nu_nu, au_nu]; omega)) (by first | omega | (simp (decide := true) only [au_1, nu_2, au_lt, nu_lt, aw_e, nw_e, au_s, au_n, nu_s, nu_n, au_au, nu_nu, au_nu]; omega)) ?_
      -- at 67: .ireturn
      try simp (decide := true) only [au_1, nu_2, au_lt, nu_lt, aw_e, nw_e, au_s, au_n, nu_s, nu_n, au_au, nu_nu, au_nu]
      refine w_ireturn dX1_row_67 rfl ?_
      exact h
    · rw [if_pos g2] at h
      refine w_aload_n (pc' := 51) dX1_row_50 rfl rfl ?_
      refine w_mga 6 (pc' := 54) dX1_row_51 rfl fX1_27_1 rfl ?_
      refine w_iload (pc' := 56) dX1_row_54 rfl rfl ?_
      refine w_mild (pc' := 57) dX1_row_56 rfl rfl (by first | omega | (simp (decide := true) only [au_1, nu_2, au_lt, nu_lt, aw_e, nw_e, au_s, au_n, nu_s, nu_n, au_au, nu_nu, au_nu]; omega)) (by first | omega | (simp (decide := true) only [au_1, nu_2, au_lt, nu_lt, aw_e, nw_e, au_s, au_n, nu_s, nu_n, au_au, nu_nu, au_nu]; omega)) ?_
      refine w_goto (tgt := 67) dX1_row_57 rfl ?_
      -- at 67: .ireturn
      try simp (decide := true) only [au_1, nu_2, au_lt, nu_lt, aw_e, nw_e, au_s, au_n, nu_s, nu_n, au_au, nu_nu, au_nu]
      refine w_ireturn dX1_row_67 rfl ?_
      exact h
theorem c_X1_shares {p i q k : Int} (hP : pok σ) (h1 : shr_ σ p i q k → K (some (xI 1)) (ov σ G0)) (h0 : ¬ shr_ σ p i q k → K (some (xI 0)) (ov σ G0)) : tvW mX1_shares (d + 1) K 0 [some (xR mR), some (xI p), some (xI i), some (xI q), some (xI k)] [] (ov σ G0) bc bs := by
  obtain ⟨⟨p1, p2⟩, hP⟩ := hP
  unfold shr_ at h0 h1
  have bad : ¬ ((0 ≤ p ∧ p < σ.1 12) ∧ (0 ≤ q ∧ q < σ.1 12) ∧ (0 ≤ i ∧ i < σ.2 11 p) ∧ (0 ≤ k ∧ k < σ.2 11 q) ∧ rw_ σ p i = rw_ σ q k) → tvW mX1_shares (d + 1) K 66 [some (xR mR), some (xI p), some (xI i), some (xI q), some (xI k)] [] (ov σ G0) bc bs := by
    intro q
    refine w_iconst (pc' := 67) dX1_shares_66 rfl (by decide) ?_
    -- at 67: .ireturn
    try simp (decide := true) only [au_1, nu_2, au_lt, nu_lt, aw_e, nw_e, au_s, au_n, nu_s, nu_n, au_au, nu_nu, au_nu]
    refine w_zreturn dX1_shares_67 rfl (by first | exact Or.inl rfl | exact Or.inr rfl | omega) ?_
    exact h0 q
  refine w_aload_n (pc' := 1) dX1_shares_0 rfl rfl ?_
  refine w_iload_n (pc' := 2) dX1_shares_1 rfl rfl ?_
  refine w_callV1 (pc' := 5) (mc := 0) (ms := 0) dX1_shares_2 rfl tX1_isPattern q1294 rfl rfl qs42 q1292 ov_o rfl (Nat.le_of_ble_eq_true rfl) (Nat.le_of_ble_eq_true rfl) ?_
  refine c_X1_isPattern  (fun g2a g2b => w_p1 ?_) (fun g2 => w_p1 ?_)
  rotate_left
  · refine w_if_eq (pc' := 8) (tgt := 66) dX1_shares_5 rfl rfl (fun h_ => ?_) (fun h_ => False.elim (by omega))
    exact bad (by omega)
  refine w_if_eq (pc' := 8) (tgt := 66) dX1_shares_5 rfl rfl (fun h_ => False.elim (by omega)) (fun h_ => ?_)
  refine w_aload_n (pc' := 9) dX1_shares_8 rfl rfl ?_
  refine w_iload_n (pc' := 10) dX1_shares_9 rfl rfl ?_
  refine w_callV1 (pc' := 13) (mc := 0) (ms := 0) dX1_shares_10 rfl tX1_isPattern q1294 rfl rfl qs42 q1292 ov_o rfl (Nat.le_of_ble_eq_true rfl) (Nat.le_of_ble_eq_true rfl) ?_
  refine c_X1_isPattern  (fun g10a g10b => w_p1 ?_) (fun g10 => w_p1 ?_)
  rotate_left
  · refine w_if_eq (pc' := 16) (tgt := 66) dX1_shares_13 rfl rfl (fun h_ => ?_) (fun h_ => False.elim (by omega))
    exact bad (by omega)
  refine w_if_eq (pc' := 16) (tgt := 66) dX1_shares_13 rfl rfl (fun h_ => False.elim (by omega)) (fun h_ => ?_)
  refine w_iload_n (pc' := 17) dX1_shares_16 rfl rfl ?_
  refine w_if_lt (pc' := 20) (tgt := 66) dX1_shares_17 rfl rfl (fun g17 => by exact bad (by omega)) (fun g17 => ?_)
  refine w_iload_n (pc' := 21) dX1_shares_20 rfl rfl ?_
  refine w_aload_n (pc' := 22) dX1_shares_21 rfl rfl ?_
  refine w_mga 11 (pc' := 25) dX1_shares_22 rfl fX1_40_1 rfl ?_
  refine w_iload_n (pc' := 26) dX1_shares_25 rfl rfl ?_
  refine w_mild (pc' := 27) dX1_shares_26 rfl rfl (by first | omega | (simp (decide := true) only [au_1, nu_2, au_lt, nu_lt, aw_e, nw_e, au_s, au_n, nu_s, nu_n, au_au, nu_nu, au_nu]; omega)) (by first | omega | (simp (decide := true) only [au_1, nu_2, au_lt, nu_lt, aw_e, nw_e, au_s, au_n, nu_s, nu_n, au_au, nu_nu, au_nu]; omega)) ?_
  refine w_icmp_ge (pc' := 30) (tgt := 66) dX1_shares_27 rfl rfl (fun g27 => by exact bad (by omega)) (fun g27 => ?_)
  refine w_iload (pc' := 32) dX1_shares_30 rfl rfl ?_
  refine w_if_lt (pc' := 35) (tgt := 66) dX1_shares_32 rfl rfl (fun g32 => by exact bad (by omega)) (fun g32 => ?_)
  refine w_iload (pc' := 37) dX1_shares_35 rfl rfl ?_
  refine w_aload_n (pc' := 38) dX1_shares_37 rfl rfl ?_
  refine w_mga 11 (pc' := 41) dX1_shares_38 rfl fX1_40_1 rfl ?_
  refine w_iload_n (pc' := 42) dX1_shares_41 rfl rfl ?_
  refine w_mild (pc' := 43) dX1_shares_42 rfl rfl (by first | omega | (simp (decide := true) only [au_1, nu_2, au_lt, nu_lt, aw_e, nw_e, au_s, au_n, nu_s, nu_n, au_au, nu_nu, au_nu]; omega)) (by first | omega | (simp (decide := true) only [au_1, nu_2, au_lt, nu_lt, aw_e, nw_e, au_s, au_n, nu_s, nu_n, au_au, nu_nu, au_nu]; omega)) ?_
  refine w_icmp_ge (pc' := 46) (tgt := 66) dX1_shares_43 rfl rfl (fun g43 => by exact bad (by omega)) (fun g43 => ?_)
  -- at 46: .aload_n 0
  have hM := (hP p g2a g2b).1
  have hM2 := (hP q g10a g10b).1
  refine w_aload_n (pc' := 47) dX1_shares_46 rfl rfl ?_
  refine w_iload_n (pc' := 48) dX1_shares_47 rfl rfl ?_
  refine w_iload_n (pc' := 49) dX1_shares_48 rfl rfl ?_
  -- at 49: .invokevirtual 175
  try simp (decide := true) only [au_1, nu_2, au_lt, nu_lt, aw_e, nw_e, au_s, au_n, nu_s, nu_n, au_au, nu_nu, au_nu]
  refine w_callV2 (pc' := 52) (mc := 0) (ms := 0) dX1_shares_49 rfl tX1_rowOf q1302 rfl rfl qs44 q1300 ov_o rfl (Nat.le_of_ble_eq_true rfl) (Nat.le_of_ble_eq_true rfl) ?_
  refine c_X1_rowOf ⟨g2a, by omega⟩ ⟨by omega, by omega⟩ ?_
  refine w_p1 ?_
  refine w_aload_n (pc' := 53) dX1_shares_52 rfl rfl ?_
  refine w_iload_n (pc' := 54) dX1_shares_53 rfl rfl ?_
  refine w_iload (pc' := 56) dX1_shares_54 rfl rfl ?_
  -- at 56: .invokevirtual 175
  try simp (decide := true) only [au_1, nu_2, au_lt, nu_lt, aw_e, nw_e, au_s, au_n, nu_s, nu_n, au_au, nu_nu, au_nu]
  refine w_callV2 (pc' := 59) (mc := 0) (ms := 0) dX1_shares_56 rfl tX1_rowOf q1302 rfl rfl qs44 q1300 ov_o rfl (Nat.le_of_ble_eq_true rfl) (Nat.le_of_ble_eq_true rfl) ?_
  refine c_X1_rowOf ⟨g10a, by omega⟩ ⟨by omega, by omega⟩ ?_
  refine w_p1 ?_
  refine w_icmp_ne (pc' := 62) (tgt := 66) dX1_shares_59 rfl rfl (fun g => ?_) (fun g => ?_)
  · exact bad (by omega)
  · refine w_iconst (pc' := 63) dX1_shares_62 rfl (by decide) ?_
    refine w_goto (tgt := 67) dX1_shares_63 rfl ?_
    -- at 67: .ireturn
    try simp (decide := true) only [au_1, nu_2, au_lt, nu_lt, aw_e, nw_e, au_s, au_n, nu_s, nu_n, au_au, nu_nu, au_nu]
    refine w_zreturn dX1_shares_67 rfl (by first | exact Or.inl rfl | exact Or.inr rfl | omega) ?_
    exact h1 (by omega)
def sCopy (σ : MS) (p : Int) : MS := nu (au (au σ 10 (rfill (σ.2 10) (60 * σ.1 12) (σ.2 11 p) (fun q => σ.2 10 (60 * p + (q - 60 * σ.1 12))))) 11 (iset (σ.2 11) (σ.1 12) (σ.2 11 p))) 12 (σ.1 12 + 1)
theorem c_X1_copy {p : Int} (hP : pok σ) (h1 : (0 ≤ p ∧ p < σ.1 12) ∧ σ.1 12 < 16 → K (some (xI (σ.1 12))) (ov (sCopy σ p) G0)) (h0 : ¬ ((0 ≤ p ∧ p < σ.1 12) ∧ σ.1 12 < 16) → K (some (xI (-1))) (ov σ G0)) : tvW mX1_copy (d + 1) K 0 [some (xR mR), some (xI p), none] [] (ov σ G0) bc bs := by
  obtain ⟨⟨p1, p2⟩, hP⟩ := hP
  have bad : ¬ ((0 ≤ p ∧ p < σ.1 12) ∧ σ.1 12 < 16) → tvW mX1_copy (d + 1) K 17 [some (xR mR), some (xI p), none] [] (ov σ G0) bc bs := by
    intro q
    refine w_iconst (pc' := 18) dX1_copy_17 rfl (by decide) ?_
    -- at 18: .ireturn
    try simp (decide := true) only [au_1, nu_2, au_lt, nu_lt, aw_e, nw_e, au_s, au_n, nu_s, nu_n, au_au, nu_nu, au_nu]
    refine w_ireturn dX1_copy_18 rfl ?_
    exact h0 q
  refine w_aload_n (pc' := 1) dX1_copy_0 rfl rfl ?_
  refine w_iload_n (pc' := 2) dX1_copy_1 rfl rfl ?_
  refine w_callV1 (pc' := 5) (mc := 0) (ms := 0) dX1_copy_2 rfl tX1_isPattern q1294 rfl rfl qs42 q1292 ov_o rfl (Nat.le_of_ble_eq_true rfl) (Nat.le_of_ble_eq_true rfl) ?_
  refine c_X1_isPattern  (fun g2a g2b => w_p1 ?_) (fun g2 => w_p1 ?_)
  rotate_left
  · refine w_if_eq (pc' := 8) (tgt := 17) dX1_copy_5 rfl rfl (fun h_ => ?_) (fun h_ => False.elim (by omega))
    exact bad (by omega)
  refine w_if_eq (pc' := 8) (tgt := 17) dX1_copy_5 rfl rfl (fun h_ => False.elim (by omega)) (fun h_ => ?_)
  refine w_aload_n (pc' := 9) dX1_copy_8 rfl rfl ?_
  refine w_mgi 12 (pc' := 12) dX1_copy_9 rfl fX1_169_1 rfl ?_
  refine w_bipush (pc' := 14) dX1_copy_12 rfl (by decide +kernel) (by decide) ?_
  refine w_icmp_ne (pc' := 17) (tgt := 19) dX1_copy_14 rfl rfl (fun g14 => ?_) (fun g14 => by exact bad (by omega))
  -- at 19: .aload_n 0
  have hM := (hP p g2a g2b).1
  unfold sCopy at h1
  refine w_aload_n (pc' := 20) dX1_copy_19 rfl rfl ?_
  refine w_mga 11 (pc' := 23) dX1_copy_20 rfl fX1_40_1 rfl ?_
  refine w_aload_n (pc' := 24) dX1_copy_23 rfl rfl ?_
  refine w_mgi 12 (pc' := 27) dX1_copy_24 rfl fX1_169_1 rfl ?_
  refine w_aload_n (pc' := 28) dX1_copy_27 rfl rfl ?_
  refine w_mga 11 (pc' := 31) dX1_copy_28 rfl fX1_40_1 rfl ?_
  refine w_iload_n (pc' := 32) dX1_copy_31 rfl rfl ?_
  refine w_mild (pc' := 33) dX1_copy_32 rfl rfl (by first | omega | (simp (decide := true) only [au_1, nu_2, au_lt, nu_lt, aw_e, nw_e, au_s, au_n, nu_s, nu_n, au_au, nu_nu, au_nu]; omega)) (by first | omega | (simp (decide := true) only [au_1, nu_2, au_lt, nu_lt, aw_e, nw_e, au_s, au_n, nu_s, nu_n, au_au, nu_nu, au_nu]; omega)) ?_
  refine w_aui (pc' := 34) dX1_copy_33 rfl rfl (by first | omega | (simp (decide := true) only [au_1, nu_2, au_lt, nu_lt, aw_e, nw_e, au_s, au_n, nu_s, nu_n, au_au, nu_nu, au_nu]; omega)) (by first | omega | (simp (decide := true) only [au_1, nu_2, au_lt, nu_lt, aw_e, nw_e, au_s, au_n, nu_s, nu_n, au_au, nu_nu, au_nu]; omega)) ?_
  try simp (decide := true) only [au_1, nu_2, au_lt, nu_lt, aw_e, nw_e, au_s, au_n, nu_s, nu_n, au_au, nu_nu, au_nu]
  refine w_iconst (pc' := 35) dX1_copy_34 rfl (by decide) ?_
  refine w_ist2 (pc' := 36) dX1_copy_35 rfl rfl ?_
  -- at 36: .iload_n 2
  try simp (decide := true) only [au_1, nu_2, au_lt, nu_lt, aw_e, nw_e, au_s, au_n, nu_s, nu_n, au_au, nu_nu, au_nu]
  refine w_ms (τ := au (au σ 10 (rfill (σ.2 10) (60 * σ.1 12) 0 (fun q => σ.2 10 (60 * p + (q - 60 * σ.1 12))))) 11 (iset (σ.2 11) (σ.1 12) (σ.2 11 p))) ?_ ?_
  · rw [rfill_0, au_id]
  refine up (T := fun k => tvW mX1_copy (d + 1) K 36 [some (xR mR), some (xI p), some (xI k)] [] (ov (au (au σ 10 (rfill (σ.2 10) (60 * σ.1 12) k (fun q => σ.2 10 (60 * p + (q - 60 * σ.1 12))))) 11 (iset (σ.2 11) (σ.1 12) (σ.2 11 p))) G0) bc bs) (σ.2 11 p) hM.1 ?_ (fun k k0 k1 ih => ?_)
  · refine w_iload_n (pc' := 37) dX1_copy_36 rfl rfl ?_
    refine w_aload_n (pc' := 38) dX1_copy_37 rfl rfl ?_
    refine w_mga 11 (pc' := 41) dX1_copy_38 rfl fX1_40_1 rfl ?_
    refine w_iload_n (pc' := 42) dX1_copy_41 rfl rfl ?_
    refine w_mild (pc' := 43) dX1_copy_42 rfl rfl (by first | omega | (simp (decide := true) only [au_1, nu_2, au_lt, nu_lt, aw_e, nw_e, au_s, au_n, nu_s, nu_n, au_au, nu_nu, au_nu]; omega)) (by first | omega | (simp (decide := true) only [au_1, nu_2, au_lt, nu_lt, aw_e, nw_e, au_s, au_n, nu_s, nu_n, au_au, nu_nu, au_nu]; omega)) ?_
    -- at 43: .if_icmp .ge 29
    try simp (decide := true) only [au_1, nu_2, au_lt, nu_lt, aw_e, nw_e, au_s, au_n, nu_s, nu_n, au_au, nu_nu, au_nu]
    try simp (decide := true) only [au_1, nu_2, au_lt, nu_lt, aw_e, nw_e, au_s, au_n, nu_s, nu_n, au_au, nu_nu, au_nu]
    rw [iset_n (by omega)]
    refine w_icmp_ge (pc' := 46) (tgt := 72) dX1_copy_43 rfl rfl (fun h_ => ?_) (fun h_ => False.elim (by first | omega | (simp (decide := true) only [au_1, nu_2, au_lt, nu_lt, aw_e, nw_e, au_s, au_n, nu_s, nu_n, au_au, nu_nu, au_nu] at h_; omega)))
    refine w_aload_n (pc' := 73) dX1_copy_72 rfl rfl ?_
    refine w_dup (pc' := 74) dX1_copy_73 rfl rfl ?_
    refine w_mgi 12 (pc' := 77) dX1_copy_74 rfl fX1_169_1 rfl ?_
    refine w_iconst (pc' := 78) dX1_copy_77 rfl (by decide) ?_
    refine w_iadd (pc' := 79) dX1_copy_78 rfl ⟨by first | omega | (simp (decide := true) only [au_1, nu_2, au_lt, nu_lt, aw_e, nw_e, au_s, au_n, nu_s, nu_n, au_au, nu_nu, au_nu]; omega), by first | omega | (simp (decide := true) only [au_1, nu_2, au_lt, nu_lt, aw_e, nw_e, au_s, au_n, nu_s, nu_n, au_au, nu_nu, au_nu]; omega)⟩ ?_
    refine w_nup 12 (pc' := 82) dX1_copy_79 rfl pX1_169_1 rfl trivial ?_
    try simp (decide := true) only [au_1, nu_2, au_lt, nu_lt, aw_e, nw_e, au_s, au_n, nu_s, nu_n, au_au, nu_nu, au_nu]
    refine w_aload_n (pc' := 83) dX1_copy_82 rfl rfl ?_
    refine w_mgi 12 (pc' := 86) dX1_copy_83 rfl fX1_169_1 rfl ?_
    refine w_iconst (pc' := 87) dX1_copy_86 rfl (by decide) ?_
    refine w_isub (pc' := 88) dX1_copy_87 rfl ⟨by first | omega | (simp (decide := true) only [au_1, nu_2, au_lt, nu_lt, aw_e, nw_e, au_s, au_n, nu_s, nu_n, au_au, nu_nu, au_nu]; omega), by first | omega | (simp (decide := true) only [au_1, nu_2, au_lt, nu_lt, aw_e, nw_e, au_s, au_n, nu_s, nu_n, au_au, nu_nu, au_nu]; omega)⟩ ?_
    -- at 88: .ireturn
    try simp (decide := true) only [au_1, nu_2, au_lt, nu_lt, aw_e, nw_e, au_s, au_n, nu_s, nu_n, au_au, nu_nu, au_nu]
    refine w_ireturn dX1_copy_88 rfl ?_
    rw [show σ.1 12 + 1 - 1 = σ.1 12 by omega]
    exact h1 ⟨⟨g2a, g2b⟩, by omega⟩
  · refine w_iload_n (pc' := 37) dX1_copy_36 rfl rfl ?_
    refine w_aload_n (pc' := 38) dX1_copy_37 rfl rfl ?_
    refine w_mga 11 (pc' := 41) dX1_copy_38 rfl fX1_40_1 rfl ?_
    refine w_iload_n (pc' := 42) dX1_copy_41 rfl rfl ?_
    refine w_mild (pc' := 43) dX1_copy_42 rfl rfl (by first | omega | (simp (decide := true) only [au_1, nu_2, au_lt, nu_lt, aw_e, nw_e, au_s, au_n, nu_s, nu_n, au_au, nu_nu, au_nu]; omega)) (by first | omega | (simp (decide := true) only [au_1, nu_2, au_lt, nu_lt, aw_e, nw_e, au_s, au_n, nu_s, nu_n, au_au, nu_nu, au_nu]; omega)) ?_
    -- at 43: .if_icmp .ge 29
    try simp (decide := true) only [au_1, nu_2, au_lt, nu_lt, aw_e, nw_e, au_s, au_n, nu_s, nu_n, au_au, nu_nu, au_nu]
    try simp (decide := true) only [au_1, nu_2, au_lt, nu_lt, aw_e, nw_e, au_s, au_n, nu_s, nu_n, au_au, nu_nu, au_nu]
    rw [iset_n (by omega)]
    refine w_icmp_ge (pc' := 46) (tgt := 72) dX1_copy_43 rfl rfl (fun h_ => False.elim (by first | omega | (simp (decide := true) only [au_1, nu_2, au_lt, nu_lt, aw_e, nw_e, au_s, au_n, nu_s, nu_n, au_au, nu_nu, au_nu] at h_; omega))) (fun h_ => ?_)
    refine w_aload_n (pc' := 47) dX1_copy_46 rfl rfl ?_
    refine w_mga 10 (pc' := 50) dX1_copy_47 rfl fX1_37_1 rfl ?_
    refine w_bipush (pc' := 52) dX1_copy_50 rfl (by decide +kernel) (by decide) ?_
    refine w_aload_n (pc' := 53) dX1_copy_52 rfl rfl ?_
    refine w_mgi 12 (pc' := 56) dX1_copy_53 rfl fX1_169_1 rfl ?_
    refine w_imul (pc' := 57) dX1_copy_56 rfl ⟨by first | omega | (simp (decide := true) only [au_1, nu_2, au_lt, nu_lt, aw_e, nw_e, au_s, au_n, nu_s, nu_n, au_au, nu_nu, au_nu]; omega), by first | omega | (simp (decide := true) only [au_1, nu_2, au_lt, nu_lt, aw_e, nw_e, au_s, au_n, nu_s, nu_n, au_au, nu_nu, au_nu]; omega)⟩ ?_
    refine w_iload_n (pc' := 58) dX1_copy_57 rfl rfl ?_
    refine w_iadd (pc' := 59) dX1_copy_58 rfl ⟨by first | omega | (simp (decide := true) only [au_1, nu_2, au_lt, nu_lt, aw_e, nw_e, au_s, au_n, nu_s, nu_n, au_au, nu_nu, au_nu]; omega), by first | omega | (simp (decide := true) only [au_1, nu_2, au_lt, nu_lt, aw_e, nw_e, au_s, au_n, nu_s, nu_n, au_au, nu_nu, au_nu]; omega)⟩ ?_
    refine w_aload_n (pc' := 60) dX1_copy_59 rfl rfl ?_
    refine w_iload_n (pc' := 61) dX1_copy_60 rfl rfl ?_
    refine w_iload_n (pc' := 62) dX1_copy_61 rfl rfl ?_
    -- at 62: .invokevirtual 175
    try simp (decide := true) only [au_1, nu_2, au_lt, nu_lt, aw_e, nw_e, au_s, au_n, nu_s, nu_n, au_au, nu_nu, au_nu]
    refine w_callV2 (pc' := 65) (mc := 0) (ms := 0) dX1_copy_62 rfl tX1_rowOf q1302 rfl rfl qs44 q1300 ov_o rfl (Nat.le_of_ble_eq_true rfl) (Nat.le_of_ble_eq_true rfl) ?_
    refine c_X1_rowOf ⟨g2a, by omega⟩ ⟨by omega, by omega⟩ ?_
    refine w_p1 ?_
    refine w_aui (pc' := 66) dX1_copy_65 rfl rfl (by first | omega | (simp (decide := true) only [au_1, nu_2, au_lt, nu_lt, aw_e, nw_e, au_s, au_n, nu_s, nu_n, au_au, nu_nu, au_nu]; omega)) (by first | omega | (simp (decide := true) only [au_1, nu_2, au_lt, nu_lt, aw_e, nw_e, au_s, au_n, nu_s, nu_n, au_au, nu_nu, au_nu]; omega)) ?_
    try simp (decide := true) only [au_1, nu_2, au_lt, nu_lt, aw_e, nw_e, au_s, au_n, nu_s, nu_n, au_au, nu_nu, au_nu]
    refine w_inc2 (pc' := 69) dX1_copy_66 rfl rfl ⟨by first | omega | (simp (decide := true) only [au_1, nu_2, au_lt, nu_lt, aw_e, nw_e, au_s, au_n, nu_s, nu_n, au_au, nu_nu, au_nu]; omega), by first | omega | (simp (decide := true) only [au_1, nu_2, au_lt, nu_lt, aw_e, nw_e, au_s, au_n, nu_s, nu_n, au_au, nu_nu, au_nu]; omega)⟩ ?_
    refine w_goto (tgt := 36) dX1_copy_69 rfl ?_
    -- at 36: .iload_n 2
    try simp (decide := true) only [au_1, nu_2, au_lt, nu_lt, aw_e, nw_e, au_s, au_n, nu_s, nu_n, au_au, nu_nu, au_nu]
    refine w_ms ?_ ih
    congr 2
    exact rfill_s' k0 rfl (by unfold rw_; simp (decide := true) only [au_n, au_s, ne_eq, not_false_eq_true]; rw [rfill_out (by omega)]; exact congrArg (σ.2 10) (by omega))
end
