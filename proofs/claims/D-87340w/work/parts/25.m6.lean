set_option maxRecDepth 10000
theorem dvc {k c r : Int} (hc : 0 < c) (h0 : 0 ≤ k) (h1 : k < r * c) : (0 ≤ k / c ∧ k / c < r) ∧ (0 ≤ k % c ∧ k % c < c) ∧ k / c * c + k % c = k := by
  refine ⟨⟨Int.ediv_nonneg h0 (by omega), Int.ediv_lt_of_lt_mul hc h1⟩, ⟨Int.emod_nonneg _ (by omega), Int.emod_lt_of_pos _ hc⟩, ?_⟩
  have := Int.mul_ediv_add_emod k c
  rw [Int.mul_comm] at this
  exact this
theorem mlr {a b A B : Int} (a0 : 0 ≤ a) (a1 : a ≤ A) (b0 : 0 ≤ b) (b1 : b ≤ B) : 0 ≤ a * b ∧ a * b ≤ A * B := ⟨Int.mul_nonneg a0 b0, Int.mul_le_mul a1 b1 b0 (by omega)⟩
theorem ixr {a b r c : Int} (a0 : 0 ≤ a) (a1 : a < r) (b0 : 0 ≤ b) (b1 : b < c) : 0 ≤ a * c + b ∧ a * c + b < r * c := by
  have h1 := Int.mul_nonneg a0 (show (0 : Int) ≤ c by omega)
  have h2 : (a + 1) * c ≤ r * c := Int.mul_le_mul_of_nonneg_right (by omega) (by omega)
  rw [Int.add_mul] at h2
  omega
theorem ixd {a b c : Int} (b0 : 0 ≤ b) (b1 : b < c) : (a * c + b) / c = a ∧ (a * c + b) % c = b := by
  rw [Int.add_comm, Int.add_mul_ediv_right _ _ (by omega), Int.ediv_eq_zero_of_lt b0 b1, Int.add_mul_emod_self_right, Int.emod_eq_of_lt b0 b1]
  omega
/-! where a place of a moved block comes from -/
def cfI (m rows i j : Int) : Int := if m % 4 = 0 then i else if m % 4 = 1 then rows - 1 - j else if m % 4 = 2 then rows - 1 - i else j
def cfJ0 (m cols i j : Int) : Int := if m % 4 = 0 then j else if m % 4 = 1 then i else if m % 4 = 2 then cols - 1 - j else cols - 1 - i
def cfJ (m cols i j : Int) : Int := if m / 4 = 0 then cfJ0 m cols i j else cols - 1 - cfJ0 m cols i j
def mvR (m r c : Int) : Int := if m % 2 = 0 then r else c
def mvC (m r c : Int) : Int := if m % 2 = 0 then c else r
theorem cf_r {m r c i j : Int} (hm : 0 ≤ m ∧ m < 8) (i0 : 0 ≤ i) (i1 : i < mvR m r c) (j0 : 0 ≤ j) (j1 : j < mvC m r c) : (0 ≤ cfI m r i j ∧ cfI m r i j < r) ∧ 0 ≤ cfJ m c i j ∧ cfJ m c i j < c := by
  have h4 : m % 4 = 0 ∨ m % 4 = 1 ∨ m % 4 = 2 ∨ m % 4 = 3 := by omega
  unfold mvR at i1
  unfold mvC at j1
  unfold cfI cfJ cfJ0
  rcases h4 with h | h | h | h <;> simp only [h] <;> simp (decide := true) only [if_true, if_false]
  · rw [if_pos (by omega)] at i1 j1
    split <;> omega
  · rw [if_neg (by omega)] at i1 j1
    split <;> omega
  · rw [if_pos (by omega)] at i1 j1
    split <;> omega
  · rw [if_neg (by omega)] at i1 j1
    split <;> omega
def gok (σ : MS) : Prop := (σ.1 24 = 0 ∨ (1 ≤ σ.1 24 ∧ σ.1 24 ≤ 20) ∧ (1 ≤ σ.1 25 ∧ σ.1 25 ≤ 20)) ∧ ∀ k, 0 ≤ k → k < σ.1 24 * σ.1 25 → isC (σ.1 5) (σ.2 20 k) ∧ (σ.2 22 k = 0 → σ.2 20 k = 0)
noncomputable def gc_ (σ : MS) (p i j c k : Int) : Int := ic (hs_ σ p (i + k / c) (j + k % c)) (ca_ σ p (i + k / c) (j + k % c)) 0
noncomputable def gi_ (σ : MS) (p i j c k : Int) : Int := b1 (hs_ σ p (i + k / c) (j + k % c))
noncomputable def sRegL (σ : MS) (p i j r c n : Int) : MS := nu (nu (au (au σ 20 (rfill (σ.2 20) 0 n (gc_ σ p i j c))) 22 (rfill (σ.2 22) 0 n (gi_ σ p i j c))) 24 r) 25 c
noncomputable def sReg (σ : MS) (p i j r c : Int) : MS := sRegL σ p i j r c (r * c)
def regOk (σ : MS) (p r c : Int) : Prop := (0 ≤ p ∧ p < σ.1 12) ∧ (1 ≤ r ∧ r ≤ 20) ∧ (1 ≤ c ∧ c ≤ 20)
section
variable {d : Nat} {K : Option XV → GH → Prop} {G0 G : GH} {bc bs : Nat} {σ : MS} {M : tv_M} {pc : Nat} {L : List (Option XV)} {st : List XV}
theorem c_X1_comesFrom {m r c i j : Int} (hm : 0 ≤ m ∧ m < 8) (hr : 0 ≤ r ∧ r ≤ 1000) (hc : 0 ≤ c ∧ c ≤ 1000) (hi : 0 ≤ i ∧ i ≤ 1000) (hj : 0 ≤ j ∧ j ≤ 1000) (h : K none (ov (nu (nu σ 18 (cfI m r i j)) 19 (cfJ m c i j)) G0)) : tvW mX1_comesFrom d K 0 [some (xR mR), some (xI m), some (xI r), some (xI c), some (xI i), some (xI j), none] [] (ov σ G0) bc bs := by
  have e3 := bAnd_3 m
  have e4 := bAnd_4 hm.1 hm.2
  have t97 : ∀ x, x = cfJ0 m c i j → tvW mX1_comesFrom d K 94 [some (xR mR), some (xI m), some (xI r), some (xI c), some (xI i), some (xI j), some (xI (bAnd m 3))] [xI x, xR mR] (ov (nu σ 18 (cfI m r i j)) G0) bc bs := by
    intro x hx
    have hxr : -2000 ≤ x ∧ x ≤ 2000 := by
      rw [hx]; unfold cfJ0
      split
      · omega
      · split
        · omega
        · split <;> omega
    unfold cfJ at h
    rw [← hx] at h
    refine w_nup 19 (pc' := 97) dX1_comesFrom_94 rfl pX1_218_1 rfl trivial ?_
    try simp (decide := true) only [au_1, nu_2, au_lt, nu_lt, aw_e, nw_e, au_s, au_n, nu_s, nu_n, au_au, nu_nu, au_nu]
    refine w_iload_n (pc' := 98) dX1_comesFrom_97 rfl rfl ?_
    refine w_iconst (pc' := 99) dX1_comesFrom_98 rfl (by decide) ?_
    refine w_iand (pc' := 100) dX1_comesFrom_99 rfl ?_
    -- at 100: .ifCond .eq 15
    try simp (decide := true) only [au_1, nu_2, au_lt, nu_lt, aw_e, nw_e, au_s, au_n, nu_s, nu_n, au_au, nu_nu, au_nu]
    refine w_if_eq (pc' := 103) (tgt := 115) dX1_comesFrom_100 rfl rfl (fun g => ?_) (fun g => ?_)
    · refine w_return dX1_comesFrom_115 rfl ?_
      rw [if_pos (by omega)] at h
      exact h
    · refine w_aload_n (pc' := 104) dX1_comesFrom_103 rfl rfl ?_
      refine w_iload_n (pc' := 105) dX1_comesFrom_104 rfl rfl ?_
      refine w_iconst (pc' := 106) dX1_comesFrom_105 rfl (by decide) ?_
      refine w_isub (pc' := 107) dX1_comesFrom_106 rfl ⟨by first | omega | (simp (decide := true) only [au_1, nu_2, au_lt, nu_lt, aw_e, nw_e, au_s, au_n, nu_s, nu_n, au_au, nu_nu, au_nu]; omega), by first | omega | (simp (decide := true) only [au_1, nu_2, au_lt, nu_lt, aw_e, nw_e, au_s, au_n, nu_s, nu_n, au_au, nu_nu, au_nu]; omega)⟩ ?_
      refine w_aload_n (pc' := 108) dX1_comesFrom_107 rfl rfl ?_
      refine w_mgi 19 (pc' := 111) dX1_comesFrom_108 rfl fX1_218_1 rfl ?_
      refine w_isub (pc' := 112) dX1_comesFrom_111 rfl ⟨by first | omega | (simp (decide := true) only [au_1, nu_2, au_lt, nu_lt, aw_e, nw_e, au_s, au_n, nu_s, nu_n, au_au, nu_nu, au_nu]; omega), by first | omega | (simp (decide := true) only [au_1, nu_2, au_lt, nu_lt, aw_e, nw_e, au_s, au_n, nu_s, nu_n, au_au, nu_nu, au_nu]; omega)⟩ ?_
      refine w_nup 19 (pc' := 115) dX1_comesFrom_112 rfl pX1_218_1 rfl trivial ?_
      try simp (decide := true) only [au_1, nu_2, au_lt, nu_lt, aw_e, nw_e, au_s, au_n, nu_s, nu_n, au_au, nu_nu, au_nu]
      -- at 115: .return_
      try simp (decide := true) only [au_1, nu_2, au_lt, nu_lt, aw_e, nw_e, au_s, au_n, nu_s, nu_n, au_au, nu_nu, au_nu]
      refine w_return dX1_comesFrom_115 rfl ?_
      rw [if_neg (by omega)] at h
      exact h
  have t48 : ∀ x, x = cfI m r i j → tvW mX1_comesFrom d K 48 [some (xR mR), some (xI m), some (xI r), some (xI c), some (xI i), some (xI j), some (xI (bAnd m 3))] [xI x, xR mR] (ov σ G0) bc bs := by
    intro x hx
    subst hx
    refine w_nup 18 (pc' := 51) dX1_comesFrom_48 rfl pX1_215_1 rfl trivial ?_
    try simp (decide := true) only [au_1, nu_2, au_lt, nu_lt, aw_e, nw_e, au_s, au_n, nu_s, nu_n, au_au, nu_nu, au_nu]
    refine w_aload_n (pc' := 52) dX1_comesFrom_51 rfl rfl ?_
    refine w_iload (pc' := 54) dX1_comesFrom_52 rfl rfl ?_
    -- at 54: .ifCond .ne 8
    try simp (decide := true) only [au_1, nu_2, au_lt, nu_lt, aw_e, nw_e, au_s, au_n, nu_s, nu_n, au_au, nu_nu, au_nu]
    refine w_if_ne (pc' := 57) (tgt := 62) dX1_comesFrom_54 rfl rfl (fun g => ?_) (fun g => ?_)
    · refine w_iload (pc' := 64) dX1_comesFrom_62 rfl rfl ?_
      refine w_iconst (pc' := 65) dX1_comesFrom_64 rfl (by decide) ?_
      -- at 65: .if_icmp .ne 8
      try simp (decide := true) only [au_1, nu_2, au_lt, nu_lt, aw_e, nw_e, au_s, au_n, nu_s, nu_n, au_au, nu_nu, au_nu]
      refine w_icmp_ne (pc' := 68) (tgt := 73) dX1_comesFrom_65 rfl rfl (fun g2 => ?_) (fun g2 => ?_)
      · refine w_iload (pc' := 75) dX1_comesFrom_73 rfl rfl ?_
        refine w_iconst (pc' := 76) dX1_comesFrom_75 rfl (by decide) ?_
        -- at 76: .if_icmp .ne 12
        try simp (decide := true) only [au_1, nu_2, au_lt, nu_lt, aw_e, nw_e, au_s, au_n, nu_s, nu_n, au_au, nu_nu, au_nu]
        refine w_icmp_ne (pc' := 79) (tgt := 88) dX1_comesFrom_76 rfl rfl (fun g3 => ?_) (fun g3 => ?_)
        · refine w_iload_n (pc' := 89) dX1_comesFrom_88 rfl rfl ?_
          refine w_iconst (pc' := 90) dX1_comesFrom_89 rfl (by decide) ?_
          refine w_isub (pc' := 91) dX1_comesFrom_90 rfl ⟨by first | omega | (simp (decide := true) only [au_1, nu_2, au_lt, nu_lt, aw_e, nw_e, au_s, au_n, nu_s, nu_n, au_au, nu_nu, au_nu]; omega), by first | omega | (simp (decide := true) only [au_1, nu_2, au_lt, nu_lt, aw_e, nw_e, au_s, au_n, nu_s, nu_n, au_au, nu_nu, au_nu]; omega)⟩ ?_
          refine w_iload (pc' := 93) dX1_comesFrom_91 rfl rfl ?_
          refine w_isub (pc' := 94) dX1_comesFrom_93 rfl ⟨by first | omega | (simp (decide := true) only [au_1, nu_2, au_lt, nu_lt, aw_e, nw_e, au_s, au_n, nu_s, nu_n, au_au, nu_nu, au_nu]; omega), by first | omega | (simp (decide := true) only [au_1, nu_2, au_lt, nu_lt, aw_e, nw_e, au_s, au_n, nu_s, nu_n, au_au, nu_nu, au_nu]; omega)⟩ ?_
          -- at 94: .putfield 218
          try simp (decide := true) only [au_1, nu_2, au_lt, nu_lt, aw_e, nw_e, au_s, au_n, nu_s, nu_n, au_au, nu_nu, au_nu]
          exact t97 _ (by unfold cfJ0; rw [if_neg (by omega), if_neg (by omega), if_neg (by omega)])
        · refine w_iload_n (pc' := 80) dX1_comesFrom_79 rfl rfl ?_
          refine w_iconst (pc' := 81) dX1_comesFrom_80 rfl (by decide) ?_
          refine w_isub (pc' := 82) dX1_comesFrom_81 rfl ⟨by first | omega | (simp (decide := true) only [au_1, nu_2, au_lt, nu_lt, aw_e, nw_e, au_s, au_n, nu_s, nu_n, au_au, nu_nu, au_nu]; omega), by first | omega | (simp (decide := true) only [au_1, nu_2, au_lt, nu_lt, aw_e, nw_e, au_s, au_n, nu_s, nu_n, au_au, nu_nu, au_nu]; omega)⟩ ?_
          refine w_iload (pc' := 84) dX1_comesFrom_82 rfl rfl ?_
          refine w_isub (pc' := 85) dX1_comesFrom_84 rfl ⟨by first | omega | (simp (decide := true) only [au_1, nu_2, au_lt, nu_lt, aw_e, nw_e, au_s, au_n, nu_s, nu_n, au_au, nu_nu, au_nu]; omega), by first | omega | (simp (decide := true) only [au_1, nu_2, au_lt, nu_lt, aw_e, nw_e, au_s, au_n, nu_s, nu_n, au_au, nu_nu, au_nu]; omega)⟩ ?_
          refine w_goto (tgt := 94) dX1_comesFrom_85 rfl ?_
          -- at 94: .putfield 218
          try simp (decide := true) only [au_1, nu_2, au_lt, nu_lt, aw_e, nw_e, au_s, au_n, nu_s, nu_n, au_au, nu_nu, au_nu]
          exact t97 _ (by unfold cfJ0; rw [if_neg (by omega), if_neg (by omega), if_pos (by omega)])
      · refine w_iload (pc' := 70) dX1_comesFrom_68 rfl rfl ?_
        refine w_goto (tgt := 94) dX1_comesFrom_70 rfl ?_
        -- at 94: .putfield 218
        try simp (decide := true) only [au_1, nu_2, au_lt, nu_lt, aw_e, nw_e, au_s, au_n, nu_s, nu_n, au_au, nu_nu, au_nu]
        exact t97 _ (by unfold cfJ0; rw [if_neg (by omega), if_pos (by omega)])
    · refine w_iload (pc' := 59) dX1_comesFrom_57 rfl rfl ?_
      refine w_goto (tgt := 94) dX1_comesFrom_59 rfl ?_
      -- at 94: .putfield 218
      try simp (decide := true) only [au_1, nu_2, au_lt, nu_lt, aw_e, nw_e, au_s, au_n, nu_s, nu_n, au_au, nu_nu, au_nu]
      exact t97 _ (by unfold cfJ0; rw [if_pos (by omega)])
  refine w_iload_n (pc' := 1) dX1_comesFrom_0 rfl rfl ?_
  refine w_iconst (pc' := 2) dX1_comesFrom_1 rfl (by decide) ?_
  refine w_iand (pc' := 3) dX1_comesFrom_2 rfl ?_
  refine w_ist6 (pc' := 5) dX1_comesFrom_3 rfl rfl ?_
  refine w_aload_n (pc' := 6) dX1_comesFrom_5 rfl rfl ?_
  refine w_iload (pc' := 8) dX1_comesFrom_6 rfl rfl ?_
  -- at 8: .ifCond .ne 8
  try simp (decide := true) only [au_1, nu_2, au_lt, nu_lt, aw_e, nw_e, au_s, au_n, nu_s, nu_n, au_au, nu_nu, au_nu]
  refine w_if_ne (pc' := 11) (tgt := 16) dX1_comesFrom_8 rfl rfl (fun g => ?_) (fun g => ?_)
  · refine w_iload (pc' := 18) dX1_comesFrom_16 rfl rfl ?_
    refine w_iconst (pc' := 19) dX1_comesFrom_18 rfl (by decide) ?_
    -- at 19: .if_icmp .ne 12
    try simp (decide := true) only [au_1, nu_2, au_lt, nu_lt, aw_e, nw_e, au_s, au_n, nu_s, nu_n, au_au, nu_nu, au_nu]
    refine w_icmp_ne (pc' := 22) (tgt := 31) dX1_comesFrom_19 rfl rfl (fun g2 => ?_) (fun g2 => ?_)
    · refine w_iload (pc' := 33) dX1_comesFrom_31 rfl rfl ?_
      refine w_iconst (pc' := 34) dX1_comesFrom_33 rfl (by decide) ?_
      -- at 34: .if_icmp .ne 12
      try simp (decide := true) only [au_1, nu_2, au_lt, nu_lt, aw_e, nw_e, au_s, au_n, nu_s, nu_n, au_au, nu_nu, au_nu]
      refine w_icmp_ne (pc' := 37) (tgt := 46) dX1_comesFrom_34 rfl rfl (fun g3 => ?_) (fun g3 => ?_)
      · refine w_iload (pc' := 48) dX1_comesFrom_46 rfl rfl ?_
        -- at 48: .putfield 215
        try simp (decide := true) only [au_1, nu_2, au_lt, nu_lt, aw_e, nw_e, au_s, au_n, nu_s, nu_n, au_au, nu_nu, au_nu]
        exact t48 _ (by unfold cfI; rw [if_neg (by omega), if_neg (by omega), if_neg (by omega)])
      · refine w_iload_n (pc' := 38) dX1_comesFrom_37 rfl rfl ?_
        refine w_iconst (pc' := 39) dX1_comesFrom_38 rfl (by decide) ?_
        refine w_isub (pc' := 40) dX1_comesFrom_39 rfl ⟨by first | omega | (simp (decide := true) only [au_1, nu_2, au_lt, nu_lt, aw_e, nw_e, au_s, au_n, nu_s, nu_n, au_au, nu_nu, au_nu]; omega), by first | omega | (simp (decide := true) only [au_1, nu_2, au_lt, nu_lt, aw_e, nw_e, au_s, au_n, nu_s, nu_n, au_au, nu_nu, au_nu]; omega)⟩ ?_
        refine w_iload (pc' := 42) dX1_comesFrom_40 rfl rfl ?_
        refine w_isub (pc' := 43) dX1_comesFrom_42 rfl ⟨by first | omega | (simp (decide := true) only [au_1, nu_2, au_lt, nu_lt, aw_e, nw_e, au_s, au_n, nu_s, nu_n, au_au, nu_nu, au_nu]; omega), by first | omega | (simp (decide := true) only [au_1, nu_2, au_lt, nu_lt, aw_e, nw_e, au_s, au_n, nu_s, nu_n, au_au, nu_nu, au_nu]; omega)⟩ ?_
        refine w_goto (tgt := 48) dX1_comesFrom_43 rfl ?_
        -- at 48: .putfield 215
        try simp (decide := true) only [au_1, nu_2, au_lt, nu_lt, aw_e, nw_e, au_s, au_n, nu_s, nu_n, au_au, nu_nu, au_nu]
        exact t48 _ (by unfold cfI; rw [if_neg (by omega), if_neg (by omega), if_pos (by omega)])
    · refine w_iload_n (pc' := 23) dX1_comesFrom_22 rfl rfl ?_
      refine w_iconst (pc' := 24) dX1_comesFrom_23 rfl (by decide) ?_
      refine w_isub (pc' := 25) dX1_comesFrom_24 rfl ⟨by first | omega | (simp (decide := true) only [au_1, nu_2, au_lt, nu_lt, aw_e, nw_e, au_s, au_n, nu_s, nu_n, au_au, nu_nu, au_nu]; omega), by first | omega | (simp (decide := true) only [au_1, nu_2, au_lt, nu_lt, aw_e, nw_e, au_s, au_n, nu_s, nu_n, au_au, nu_nu, au_nu]; omega)⟩ ?_
      refine w_iload (pc' := 27) dX1_comesFrom_25 rfl rfl ?_
      refine w_isub (pc' := 28) dX1_comesFrom_27 rfl ⟨by first | omega | (simp (decide := true) only [au_1, nu_2, au_lt, nu_lt, aw_e, nw_e, au_s, au_n, nu_s, nu_n, au_au, nu_nu, au_nu]; omega), by first | omega | (simp (decide := true) only [au_1, nu_2, au_lt, nu_lt, aw_e, nw_e, au_s, au_n, nu_s, nu_n, au_au, nu_nu, au_nu]; omega)⟩ ?_
      refine w_goto (tgt := 48) dX1_comesFrom_28 rfl ?_
      -- at 48: .putfield 215
      try simp (decide := true) only [au_1, nu_2, au_lt, nu_lt, aw_e, nw_e, au_s, au_n, nu_s, nu_n, au_au, nu_nu, au_nu]
      exact t48 _ (by unfold cfI; rw [if_neg (by omega), if_pos (by omega)])
  · refine w_iload (pc' := 13) dX1_comesFrom_11 rfl rfl ?_
    refine w_goto (tgt := 48) dX1_comesFrom_13 rfl ?_
    -- at 48: .putfield 215
    try simp (decide := true) only [au_1, nu_2, au_lt, nu_lt, aw_e, nw_e, au_s, au_n, nu_s, nu_n, au_au, nu_nu, au_nu]
    exact t48 _ (by unfold cfI; rw [if_pos (by omega)])
theorem c_X1_region {p i j r c : Int} (hR : rok σ) (hP : pok σ) (hi : rg i) (hj : rg j) (h1 : regOk σ p r c → K (some (xI (sm (fun k => b1 (gc_ σ p i j c k ≠ 0)) (r * c)))) (ov (sReg σ p i j r c) G0)) (h0 : ¬ regOk σ p r c → K (some (xI (-1))) (ov σ G0)) : tvW mX1_region (d + 3) K 0 [some (xR mR), some (xI p), some (xI i), some (xI j), some (xI r), some (xI c), none, none, none, none, none, none] [] (ov σ G0) bc bs := by
  unfold regOk at h0 h1
  have bad : ¬ ((0 ≤ p ∧ p < σ.1 12) ∧ (1 ≤ r ∧ r ≤ 20) ∧ (1 ≤ c ∧ c ≤ 20)) → tvW mX1_region (d + 3) K 34 [some (xR mR), some (xI p), some (xI i), some (xI j), some (xI r), some (xI c), none, none, none, none, none, none] [] (ov σ G0) bc bs := by
    intro q
    refine w_iconst (pc' := 35) dX1_region_34 rfl (by decide) ?_
    -- at 35: .ireturn
    try simp (decide := true) only [au_1, nu_2, au_lt, nu_lt, aw_e, nw_e, au_s, au_n, nu_s, nu_n, au_au, nu_nu, au_nu]
    refine w_ireturn dX1_region_35 rfl ?_
    exact h0 q
  refine w_aload_n (pc' := 1) dX1_region_0 rfl rfl ?_
  refine w_iload_n (pc' := 2) dX1_region_1 rfl rfl ?_
  refine w_callV1 (pc' := 5) (mc := 0) (ms := 0) dX1_region_2 rfl tX1_isPattern q1294 rfl rfl qs42 q1292 ov_o rfl (Nat.le_of_ble_eq_true rfl) (Nat.le_of_ble_eq_true rfl) ?_
  refine c_X1_isPattern  (fun g2a g2b => w_p1 ?_) (fun g2 => w_p1 ?_)
  rotate_left
  · refine w_if_eq (pc' := 8) (tgt := 34) dX1_region_5 rfl rfl (fun h_ => ?_) (fun h_ => False.elim (by omega))
    exact bad (by omega)
  refine w_if_eq (pc' := 8) (tgt := 34) dX1_region_5 rfl rfl (fun h_ => False.elim (by omega)) (fun h_ => ?_)
  refine w_iload (pc' := 10) dX1_region_8 rfl rfl ?_
  refine w_iconst (pc' := 11) dX1_region_10 rfl (by decide) ?_
  refine w_icmp_lt (pc' := 14) (tgt := 34) dX1_region_11 rfl rfl (fun g11 => by exact bad (by omega)) (fun g11 => ?_)
  refine w_iload (pc' := 16) dX1_region_14 rfl rfl ?_
  refine w_bipush (pc' := 18) dX1_region_16 rfl (by decide +kernel) (by decide) ?_
  refine w_icmp_gt (pc' := 21) (tgt := 34) dX1_region_18 rfl rfl (fun g18 => by exact bad (by omega)) (fun g18 => ?_)
  refine w_iload (pc' := 23) dX1_region_21 rfl rfl ?_
  refine w_iconst (pc' := 24) dX1_region_23 rfl (by decide) ?_
  refine w_icmp_lt (pc' := 27) (tgt := 34) dX1_region_24 rfl rfl (fun g24 => by exact bad (by omega)) (fun g24 => ?_)
  refine w_iload (pc' := 29) dX1_region_27 rfl rfl ?_
  refine w_bipush (pc' := 31) dX1_region_29 rfl (by decide +kernel) (by decide) ?_
  refine w_icmp_le (pc' := 34) (tgt := 36) dX1_region_31 rfl rfl (fun g31 => ?_) (fun g31 => by exact bad (by omega))
  -- at 36: .aload_n 0
  have hp : 0 ≤ p ∧ p < σ.1 12 := ⟨g2a, g2b⟩
  have hrc := mlr (A := 20) (B := 20) (a := r) (b := c) (by omega) (by omega) (by omega) (by omega)
  have h1 := h1 (by omega)
  refine w_aload_n (pc' := 37) dX1_region_36 rfl rfl ?_
  refine w_iload (pc' := 39) dX1_region_37 rfl rfl ?_
  refine w_nup 24 (pc' := 42) dX1_region_39 rfl pX1_221_1 rfl trivial ?_
  try simp (decide := true) only [au_1, nu_2, au_lt, nu_lt, aw_e, nw_e, au_s, au_n, nu_s, nu_n, au_au, nu_nu, au_nu]
  refine w_aload_n (pc' := 43) dX1_region_42 rfl rfl ?_
  refine w_iload (pc' := 45) dX1_region_43 rfl rfl ?_
  refine w_nup 25 (pc' := 48) dX1_region_45 rfl pX1_224_1 rfl trivial ?_
  try simp (decide := true) only [au_1, nu_2, au_lt, nu_lt, aw_e, nw_e, au_s, au_n, nu_s, nu_n, au_au, nu_nu, au_nu]
  refine w_iconst (pc' := 49) dX1_region_48 rfl (by decide) ?_
  refine w_ist6 (pc' := 51) dX1_region_49 rfl rfl ?_
  refine w_iconst (pc' := 52) dX1_region_51 rfl (by decide) ?_
  refine w_ist7 (pc' := 54) dX1_region_52 rfl rfl ?_
  -- at 54: .iload 7
  try simp (decide := true) only [au_1, nu_2, au_lt, nu_lt, aw_e, nw_e, au_s, au_n, nu_s, nu_n, au_au, nu_nu, au_nu]
  refine w_ms (τ := sRegL σ p i j r c 0) (by unfold sRegL; simp only [rfill_0, au_id]) ?_
  refine up (T := fun k => ∀ x y : Option XV, tvW mX1_region (d + 3) K 54 [some (xR mR), some (xI p), some (xI i), some (xI j), some (xI r), some (xI c), some (xI (sm (fun k => b1 (gc_ σ p i j c k ≠ 0)) k)), some (xI k), x, none, y, none] [] (ov (sRegL σ p i j r c k) G0) bc bs) (r * c) hrc.1 (fun x y => ?_) (fun k k0 k1 ih x y => ?_) none none
  · refine w_iload (pc' := 56) dX1_region_54 rfl rfl ?_
    refine w_iload (pc' := 58) dX1_region_56 rfl rfl ?_
    refine w_iload (pc' := 60) dX1_region_58 rfl rfl ?_
    refine w_imul (pc' := 61) dX1_region_60 rfl ⟨by first | omega | (simp (decide := true) only [au_1, nu_2, au_lt, nu_lt, aw_e, nw_e, au_s, au_n, nu_s, nu_n, au_au, nu_nu, au_nu]; omega), by first | omega | (simp (decide := true) only [au_1, nu_2, au_lt, nu_lt, aw_e, nw_e, au_s, au_n, nu_s, nu_n, au_au, nu_nu, au_nu]; omega)⟩ ?_
    -- at 61: .if_icmp .ge 99
    try simp (decide := true) only [au_1, nu_2, au_lt, nu_lt, aw_e, nw_e, au_s, au_n, nu_s, nu_n, au_au, nu_nu, au_nu]
    refine w_icmp_ge (pc' := 64) (tgt := 160) dX1_region_61 rfl rfl (fun h_ => ?_) (fun h_ => False.elim (by first | omega | (simp (decide := true) only [au_1, nu_2, au_lt, nu_lt, aw_e, nw_e, au_s, au_n, nu_s, nu_n, au_au, nu_nu, au_nu] at h_; omega)))
    refine w_iload (pc' := 162) dX1_region_160 rfl rfl ?_
    -- at 162: .ireturn
    try simp (decide := true) only [au_1, nu_2, au_lt, nu_lt, aw_e, nw_e, au_s, au_n, nu_s, nu_n, au_au, nu_nu, au_nu]
    refine w_ireturn dX1_region_162 rfl ?_
    exact h1
  · obtain ⟨⟨a0, a1⟩, ⟨b0, b1'⟩, hk⟩ := dvc (by omega) k0 k1
    have hs := sm_r (f := fun k => b1 (gc_ σ p i j c k ≠ 0)) 1 k0 (fun _ _ _ => b1_r _)
    rw [sm_s k0] at ih
    have la := lAdd_of (a := i) (b := k / c) ⟨by omega, by omega⟩
    have lb := lAdd_of (a := j) (b := k % c) ⟨by omega, by omega⟩
    have er : rok (sRegL σ p i j r c k) := hR
    have ep : pok (sRegL σ p i j r c k) := hP
    have eh : hs_ (sRegL σ p i j r c k) p (i + k / c) (j + k % c) = hs_ σ p (i + k / c) (j + k % c) := rfl
    refine w_iload (pc' := 56) dX1_region_54 rfl rfl ?_
    refine w_iload (pc' := 58) dX1_region_56 rfl rfl ?_
    refine w_iload (pc' := 60) dX1_region_58 rfl rfl ?_
    refine w_imul (pc' := 61) dX1_region_60 rfl ⟨by first | omega | (simp (decide := true) only [au_1, nu_2, au_lt, nu_lt, aw_e, nw_e, au_s, au_n, nu_s, nu_n, au_au, nu_nu, au_nu]; omega), by first | omega | (simp (decide := true) only [au_1, nu_2, au_lt, nu_lt, aw_e, nw_e, au_s, au_n, nu_s, nu_n, au_au, nu_nu, au_nu]; omega)⟩ ?_
    -- at 61: .if_icmp .ge 99
    try simp (decide := true) only [au_1, nu_2, au_lt, nu_lt, aw_e, nw_e, au_s, au_n, nu_s, nu_n, au_au, nu_nu, au_nu]
    refine w_icmp_ge (pc' := 64) (tgt := 160) dX1_region_61 rfl rfl (fun h_ => False.elim (by first | omega | (simp (decide := true) only [au_1, nu_2, au_lt, nu_lt, aw_e, nw_e, au_s, au_n, nu_s, nu_n, au_au, nu_nu, au_nu] at h_; omega))) (fun h_ => ?_)
    refine w_iload_n (pc' := 65) dX1_region_64 rfl rfl ?_
    refine w_i2l (pc' := 66) dX1_region_65 rfl ?_
    refine w_iload (pc' := 68) dX1_region_66 rfl rfl ?_
    refine w_iload (pc' := 70) dX1_region_68 rfl rfl ?_
    refine w_idiv (pc' := 71) dX1_region_70 rfl (by first | omega | (simp (decide := true) only [au_1, nu_2, au_lt, nu_lt, aw_e, nw_e, au_s, au_n, nu_s, nu_n, au_au, nu_nu, au_nu]; omega)) (by first | omega | (simp (decide := true) only [au_1, nu_2, au_lt, nu_lt, aw_e, nw_e, au_s, au_n, nu_s, nu_n, au_au, nu_nu, au_nu]; omega)) ?_
    refine w_i2l (pc' := 72) dX1_region_71 rfl ?_
    refine w_ladd (pc' := 73) dX1_region_72 rfl ?_
    -- at 73: .lstore 8
    try simp (decide := true) only [au_1, nu_2, au_lt, nu_lt, aw_e, nw_e, au_s, au_n, nu_s, nu_n, au_au, nu_nu, au_nu]
    rw [la]
    refine w_lst8 (pc' := 75) dX1_region_73 rfl rfl ?_
    refine w_iload_n (pc' := 76) dX1_region_75 rfl rfl ?_
    refine w_i2l (pc' := 77) dX1_region_76 rfl ?_
    refine w_iload (pc' := 79) dX1_region_77 rfl rfl ?_
    refine w_iload (pc' := 81) dX1_region_79 rfl rfl ?_
    refine w_irem (pc' := 82) dX1_region_81 rfl (by first | omega | (simp (decide := true) only [au_1, nu_2, au_lt, nu_lt, aw_e, nw_e, au_s, au_n, nu_s, nu_n, au_au, nu_nu, au_nu]; omega)) (by first | omega | (simp (decide := true) only [au_1, nu_2, au_lt, nu_lt, aw_e, nw_e, au_s, au_n, nu_s, nu_n, au_au, nu_nu, au_nu]; omega)) ?_
    refine w_i2l (pc' := 83) dX1_region_82 rfl ?_
    refine w_ladd (pc' := 84) dX1_region_83 rfl ?_
    -- at 84: .lstore 10
    try simp (decide := true) only [au_1, nu_2, au_lt, nu_lt, aw_e, nw_e, au_s, au_n, nu_s, nu_n, au_au, nu_nu, au_nu]
    rw [lb]
    refine w_lst10 (pc' := 86) dX1_region_84 rfl rfl ?_
    refine w_aload_n (pc' := 87) dX1_region_86 rfl rfl ?_
    refine w_mga 22 (pc' := 90) dX1_region_87 rfl fX1_58_1 rfl ?_
    refine w_iload (pc' := 92) dX1_region_90 rfl rfl ?_
    refine w_aload_n (pc' := 93) dX1_region_92 rfl rfl ?_
    refine w_iload_n (pc' := 94) dX1_region_93 rfl rfl ?_
    refine w_lload (pc' := 96) dX1_region_94 rfl rfl ?_
    refine w_lload (pc' := 98) dX1_region_96 rfl rfl ?_
    -- at 98: .invokevirtual 204
    try simp (decide := true) only [au_1, nu_2, au_lt, nu_lt, aw_e, nw_e, au_s, au_n, nu_s, nu_n, au_au, nu_nu, au_nu]
    refine w_callV3 (pc' := 101) (mc := 0) (ms := 0) dX1_region_98 rfl tX1_has q1326 rfl rfl qs47 q1324 ov_o rfl (Nat.le_of_ble_eq_true rfl) (Nat.le_of_ble_eq_true rfl) ?_
    refine c_X1_has er ep hp ⟨by omega, by omega⟩ (fun a => w_p1 ?_) (fun a => w_p1 ?_)
    · rw [eh] at a
      have q : hs_ σ p (i + k / c) (j + k % c) := a
      obtain ⟨q1, q2, q3, q4⟩ := a
      have hM := (hP.2 p hp.1 hp.2).1
      obtain ⟨r1, r2⟩ := (hP.2 p hp.1 hp.2).2 _ q1 q2
      obtain ⟨⟨l1, l2⟩, ⟨o1, o2⟩, -⟩ := hR.2 _ r1 r2
      have li := lI_of (z := i + k / c) ⟨by omega, by omega⟩
      have lj := lI_of (z := j + k % c) ⟨by omega, by omega⟩
      have ec : gc_ σ p i j c k = ca_ σ p (i + k / c) (j + k % c) := ic_t q
      have ei : gi_ σ p i j c k = 1 := b1_t q
      unfold sRegL
      refine w_auz (pc' := 102) dX1_region_101 rfl rfl (by first | omega | (simp (decide := true) only [au_1, nu_2, au_lt, nu_lt, aw_e, nw_e, au_s, au_n, nu_s, nu_n, au_au, nu_nu, au_nu]; omega)) (by first | omega | (simp (decide := true) only [au_1, nu_2, au_lt, nu_lt, aw_e, nw_e, au_s, au_n, nu_s, nu_n, au_au, nu_nu, au_nu]; omega)) (by first | omega | (simp (decide := true) only [au_1, nu_2, au_lt, nu_lt, aw_e, nw_e, au_s, au_n, nu_s, nu_n, au_au, nu_nu, au_nu]; omega)) ?_
      try simp (decide := true) only [au_1, nu_2, au_lt, nu_lt, aw_e, nw_e, au_s, au_n, nu_s, nu_n, au_au, nu_nu, au_nu]
      refine w_aload_n (pc' := 103) dX1_region_102 rfl rfl ?_
      refine w_mga 20 (pc' := 106) dX1_region_103 rfl fX1_52_1 rfl ?_
      refine w_iload (pc' := 108) dX1_region_106 rfl rfl ?_
      refine w_aload_n (pc' := 109) dX1_region_108 rfl rfl ?_
      refine w_mga 22 (pc' := 112) dX1_region_109 rfl fX1_58_1 rfl ?_
      refine w_iload (pc' := 114) dX1_region_112 rfl rfl ?_
      refine w_mzld (pc' := 115) dX1_region_114 rfl rfl (by first | omega | (simp (decide := true) only [au_1, nu_2, au_lt, nu_lt, aw_e, nw_e, au_s, au_n, nu_s, nu_n, au_au, nu_nu, au_nu]; omega)) (by first | omega | (simp (decide := true) only [au_1, nu_2, au_lt, nu_lt, aw_e, nw_e, au_s, au_n, nu_s, nu_n, au_au, nu_nu, au_nu]; omega)) ?_
      -- at 115: .ifCond .eq 17
      try simp (decide := true) only [au_1, nu_2, au_lt, nu_lt, aw_e, nw_e, au_s, au_n, nu_s, nu_n, au_au, nu_nu, au_nu]
      simp only [iset_s]
      refine w_if_eq (pc' := 118) (tgt := 132) dX1_region_115 rfl rfl (fun h_ => False.elim (by first | omega | (simp (decide := true) only [au_1, nu_2, au_lt, nu_lt, aw_e, nw_e, au_s, au_n, nu_s, nu_n, au_au, nu_nu, au_nu] at h_; omega))) (fun h_ => ?_)
      refine w_aload_n (pc' := 119) dX1_region_118 rfl rfl ?_
      refine w_iload_n (pc' := 120) dX1_region_119 rfl rfl ?_
      refine w_lload (pc' := 122) dX1_region_120 rfl rfl ?_
      refine w_l2i (pc' := 123) dX1_region_122 rfl ?_
      refine w_lload (pc' := 125) dX1_region_123 rfl rfl ?_
      refine w_l2i (pc' := 126) dX1_region_125 rfl ?_
      -- at 126: .invokevirtual 212
      try simp (decide := true) only [au_1, nu_2, au_lt, nu_lt, aw_e, nw_e, au_s, au_n, nu_s, nu_n, au_au, nu_nu, au_nu]
      rw [li, lj]
      refine w_callV3 (pc' := 129) (mc := 0) (ms := 0) dX1_region_126 rfl tX1_cellAt q1349 rfl rfl qs51 q1347 ov_o rfl (Nat.le_of_ble_eq_true rfl) (Nat.le_of_ble_eq_true rfl) ?_
      refine c_X1_cellAt (show rok _ from hR) (show pok _ from hP) hp (show hs_ _ _ _ _ from q) ?_
      refine w_p1 ?_
      refine w_st (st' := [xI (gc_ σ p i j c k), xI k, xR (mr 20)]) (by rw [ec]; rfl) ?_
      refine w_goto (tgt := 133) dX1_region_129 rfl ?_
      refine w_aui (pc' := 134) dX1_region_133 rfl rfl (by first | omega | (simp (decide := true) only [au_1, nu_2, au_lt, nu_lt, aw_e, nw_e, au_s, au_n, nu_s, nu_n, au_au, nu_nu, au_nu]; omega)) (by first | omega | (simp (decide := true) only [au_1, nu_2, au_lt, nu_lt, aw_e, nw_e, au_s, au_n, nu_s, nu_n, au_au, nu_nu, au_nu]; omega)) ?_
      try simp (decide := true) only [au_1, nu_2, au_lt, nu_lt, aw_e, nw_e, au_s, au_n, nu_s, nu_n, au_au, nu_nu, au_nu]
      refine w_iload (pc' := 136) dX1_region_134 rfl rfl ?_
      refine w_aload_n (pc' := 137) dX1_region_136 rfl rfl ?_
      refine w_mga 20 (pc' := 140) dX1_region_137 rfl fX1_52_1 rfl ?_
      refine w_iload (pc' := 142) dX1_region_140 rfl rfl ?_
      refine w_mild (pc' := 143) dX1_region_142 rfl rfl (by first | omega | (simp (decide := true) only [au_1, nu_2, au_lt, nu_lt, aw_e, nw_e, au_s, au_n, nu_s, nu_n, au_au, nu_nu, au_nu]; omega)) (by first | omega | (simp (decide := true) only [au_1, nu_2, au_lt, nu_lt, aw_e, nw_e, au_s, au_n, nu_s, nu_n, au_au, nu_nu, au_nu]; omega)) ?_
      -- at 143: .ifCond .eq 7
      try simp (decide := true) only [au_1, nu_2, au_lt, nu_lt, aw_e, nw_e, au_s, au_n, nu_s, nu_n, au_au, nu_nu, au_nu]
      simp only [iset_s]
      have e : sRegL σ p i j r c (k + 1) = nu (nu (au (au σ 20 (iset (rfill (σ.2 20) 0 k (gc_ σ p i j c)) k (gc_ σ p i j c k))) 22 (iset (rfill (σ.2 22) 0 k (gi_ σ p i j c)) k 1)) 24 r) 25 c := by
        unfold sRegL
        rw [rfill_s' k0 (by omega) (by rw [Int.zero_add]), rfill_s' k0 (by omega) (by rw [Int.zero_add, ei])]
      rw [e] at ih
      refine w_if_eq (pc' := 146) (tgt := 150) dX1_region_143 rfl rfl (fun g => ?_) (fun g => ?_)
      · rw [b1_f (fun q => q g)] at ih
        refine w_iconst (pc' := 151) dX1_region_150 rfl (by decide) ?_
        refine w_iadd (pc' := 152) dX1_region_151 rfl ⟨by first | omega | (simp (decide := true) only [au_1, nu_2, au_lt, nu_lt, aw_e, nw_e, au_s, au_n, nu_s, nu_n, au_au, nu_nu, au_nu]; omega), by first | omega | (simp (decide := true) only [au_1, nu_2, au_lt, nu_lt, aw_e, nw_e, au_s, au_n, nu_s, nu_n, au_au, nu_nu, au_nu]; omega)⟩ ?_
        refine w_ist6 (pc' := 154) dX1_region_152 rfl rfl ?_
        refine w_inc7 (pc' := 157) dX1_region_154 rfl rfl ⟨by first | omega | (simp (decide := true) only [au_1, nu_2, au_lt, nu_lt, aw_e, nw_e, au_s, au_n, nu_s, nu_n, au_au, nu_nu, au_nu]; omega), by first | omega | (simp (decide := true) only [au_1, nu_2, au_lt, nu_lt, aw_e, nw_e, au_s, au_n, nu_s, nu_n, au_au, nu_nu, au_nu]; omega)⟩ ?_
        refine w_goto (tgt := 54) dX1_region_157 rfl ?_
        -- at 54: .iload 7
        try simp (decide := true) only [au_1, nu_2, au_lt, nu_lt, aw_e, nw_e, au_s, au_n, nu_s, nu_n, au_au, nu_nu, au_nu]
        exact ih _ _
      · rw [b1_t g] at ih
        refine w_iconst (pc' := 147) dX1_region_146 rfl (by decide) ?_
        refine w_goto (tgt := 151) dX1_region_147 rfl ?_
        refine w_iadd (pc' := 152) dX1_region_151 rfl ⟨by first | omega | (simp (decide := true) only [au_1, nu_2, au_lt, nu_lt, aw_e, nw_e, au_s, au_n, nu_s, nu_n, au_au, nu_nu, au_nu]; omega), by first | omega | (simp (decide := true) only [au_1, nu_2, au_lt, nu_lt, aw_e, nw_e, au_s, au_n, nu_s, nu_n, au_au, nu_nu, au_nu]; omega)⟩ ?_
        refine w_ist6 (pc' := 154) dX1_region_152 rfl rfl ?_
        refine w_inc7 (pc' := 157) dX1_region_154 rfl rfl ⟨by first | omega | (simp (decide := true) only [au_1, nu_2, au_lt, nu_lt, aw_e, nw_e, au_s, au_n, nu_s, nu_n, au_au, nu_nu, au_nu]; omega), by first | omega | (simp (decide := true) only [au_1, nu_2, au_lt, nu_lt, aw_e, nw_e, au_s, au_n, nu_s, nu_n, au_au, nu_nu, au_nu]; omega)⟩ ?_
        refine w_goto (tgt := 54) dX1_region_157 rfl ?_
        -- at 54: .iload 7
        try simp (decide := true) only [au_1, nu_2, au_lt, nu_lt, aw_e, nw_e, au_s, au_n, nu_s, nu_n, au_au, nu_nu, au_nu]
        exact ih _ _
    · rw [eh] at a
      have ec : gc_ σ p i j c k = 0 := ic_f a
      have ei : gi_ σ p i j c k = 0 := b1_f a
      unfold sRegL
      refine w_auz (pc' := 102) dX1_region_101 rfl rfl (by first | omega | (simp (decide := true) only [au_1, nu_2, au_lt, nu_lt, aw_e, nw_e, au_s, au_n, nu_s, nu_n, au_au, nu_nu, au_nu]; omega)) (by first | omega | (simp (decide := true) only [au_1, nu_2, au_lt, nu_lt, aw_e, nw_e, au_s, au_n, nu_s, nu_n, au_au, nu_nu, au_nu]; omega)) (by first | omega | (simp (decide := true) only [au_1, nu_2, au_lt, nu_lt, aw_e, nw_e, au_s, au_n, nu_s, nu_n, au_au, nu_nu, au_nu]; omega)) ?_
      try simp (decide := true) only [au_1, nu_2, au_lt, nu_lt, aw_e, nw_e, au_s, au_n, nu_s, nu_n, au_au, nu_nu, au_nu]
      refine w_aload_n (pc' := 103) dX1_region_102 rfl rfl ?_
      refine w_mga 20 (pc' := 106) dX1_region_103 rfl fX1_52_1 rfl ?_
      refine w_iload (pc' := 108) dX1_region_106 rfl rfl ?_
      refine w_aload_n (pc' := 109) dX1_region_108 rfl rfl ?_
      refine w_mga 22 (pc' := 112) dX1_region_109 rfl fX1_58_1 rfl ?_
      refine w_iload (pc' := 114) dX1_region_112 rfl rfl ?_
      refine w_mzld (pc' := 115) dX1_region_114 rfl rfl (by first | omega | (simp (decide := true) only [au_1, nu_2, au_lt, nu_lt, aw_e, nw_e, au_s, au_n, nu_s, nu_n, au_au, nu_nu, au_nu]; omega)) (by first | omega | (simp (decide := true) only [au_1, nu_2, au_lt, nu_lt, aw_e, nw_e, au_s, au_n, nu_s, nu_n, au_au, nu_nu, au_nu]; omega)) ?_
      -- at 115: .ifCond .eq 17
      try simp (decide := true) only [au_1, nu_2, au_lt, nu_lt, aw_e, nw_e, au_s, au_n, nu_s, nu_n, au_au, nu_nu, au_nu]
      simp only [iset_s]
      refine w_if_eq (pc' := 118) (tgt := 132) dX1_region_115 rfl rfl (fun h_ => ?_) (fun h_ => False.elim (by first | omega | (simp (decide := true) only [au_1, nu_2, au_lt, nu_lt, aw_e, nw_e, au_s, au_n, nu_s, nu_n, au_au, nu_nu, au_nu] at h_; omega)))
      refine w_iconst (pc' := 133) dX1_region_132 rfl (by decide) ?_
      refine w_aui (pc' := 134) dX1_region_133 rfl rfl (by first | omega | (simp (decide := true) only [au_1, nu_2, au_lt, nu_lt, aw_e, nw_e, au_s, au_n, nu_s, nu_n, au_au, nu_nu, au_nu]; omega)) (by first | omega | (simp (decide := true) only [au_1, nu_2, au_lt, nu_lt, aw_e, nw_e, au_s, au_n, nu_s, nu_n, au_au, nu_nu, au_nu]; omega)) ?_
      try simp (decide := true) only [au_1, nu_2, au_lt, nu_lt, aw_e, nw_e, au_s, au_n, nu_s, nu_n, au_au, nu_nu, au_nu]
      refine w_iload (pc' := 136) dX1_region_134 rfl rfl ?_
      refine w_aload_n (pc' := 137) dX1_region_136 rfl rfl ?_
      refine w_mga 20 (pc' := 140) dX1_region_137 rfl fX1_52_1 rfl ?_
      refine w_iload (pc' := 142) dX1_region_140 rfl rfl ?_
      refine w_mild (pc' := 143) dX1_region_142 rfl rfl (by first | omega | (simp (decide := true) only [au_1, nu_2, au_lt, nu_lt, aw_e, nw_e, au_s, au_n, nu_s, nu_n, au_au, nu_nu, au_nu]; omega)) (by first | omega | (simp (decide := true) only [au_1, nu_2, au_lt, nu_lt, aw_e, nw_e, au_s, au_n, nu_s, nu_n, au_au, nu_nu, au_nu]; omega)) ?_
      -- at 143: .ifCond .eq 7
      try simp (decide := true) only [au_1, nu_2, au_lt, nu_lt, aw_e, nw_e, au_s, au_n, nu_s, nu_n, au_au, nu_nu, au_nu]
      simp only [iset_s]
      have e : sRegL σ p i j r c (k + 1) = nu (nu (au (au σ 20 (iset (rfill (σ.2 20) 0 k (gc_ σ p i j c)) k 0)) 22 (iset (rfill (σ.2 22) 0 k (gi_ σ p i j c)) k 0)) 24 r) 25 c := by
        unfold sRegL
        rw [rfill_s' k0 (by omega) (by rw [Int.zero_add, ec]), rfill_s' k0 (by omega) (by rw [Int.zero_add, ei])]
      rw [e, b1_f (fun q => q ec)] at ih
      refine w_if_eq (pc' := 146) (tgt := 150) dX1_region_143 rfl rfl (fun h_ => ?_) (fun h_ => False.elim (by first | omega | (simp (decide := true) only [au_1, nu_2, au_lt, nu_lt, aw_e, nw_e, au_s, au_n, nu_s, nu_n, au_au, nu_nu, au_nu] at h_; omega)))
      refine w_iconst (pc' := 151) dX1_region_150 rfl (by decide) ?_
      refine w_iadd (pc' := 152) dX1_region_151 rfl ⟨by first | omega | (simp (decide := true) only [au_1, nu_2, au_lt, nu_lt, aw_e, nw_e, au_s, au_n, nu_s, nu_n, au_au, nu_nu, au_nu]; omega), by first | omega | (simp (decide := true) only [au_1, nu_2, au_lt, nu_lt, aw_e, nw_e, au_s, au_n, nu_s, nu_n, au_au, nu_nu, au_nu]; omega)⟩ ?_
      refine w_ist6 (pc' := 154) dX1_region_152 rfl rfl ?_
      refine w_inc7 (pc' := 157) dX1_region_154 rfl rfl ⟨by first | omega | (simp (decide := true) only [au_1, nu_2, au_lt, nu_lt, aw_e, nw_e, au_s, au_n, nu_s, nu_n, au_au, nu_nu, au_nu]; omega), by first | omega | (simp (decide := true) only [au_1, nu_2, au_lt, nu_lt, aw_e, nw_e, au_s, au_n, nu_s, nu_n, au_au, nu_nu, au_nu]; omega)⟩ ?_
      refine w_goto (tgt := 54) dX1_region_157 rfl ?_
      -- at 54: .iload 7
      try simp (decide := true) only [au_1, nu_2, au_lt, nu_lt, aw_e, nw_e, au_s, au_n, nu_s, nu_n, au_au, nu_nu, au_nu]
      exact ih _ _
noncomputable def tc_ (σ : MS) (m k : Int) : Int := mvd σ (σ.2 20 (cfI m (σ.1 24) (k / mvC m (σ.1 24) (σ.1 25)) (k % mvC m (σ.1 24) (σ.1 25)) * σ.1 25 + cfJ m (σ.1 25) (k / mvC m (σ.1 24) (σ.1 25)) (k % mvC m (σ.1 24) (σ.1 25)))) m
noncomputable def ti_ (σ : MS) (m k : Int) : Int := σ.2 22 (cfI m (σ.1 24) (k / mvC m (σ.1 24) (σ.1 25)) (k % mvC m (σ.1 24) (σ.1 25)) * σ.1 25 + cfJ m (σ.1 25) (k / mvC m (σ.1 24) (σ.1 25)) (k % mvC m (σ.1 24) (σ.1 25)))
theorem mvd_r {σ : MS} {c m : Int} (hk : kok σ) (hc : isC (σ.1 5) c) (hr : rg c) (hm : 0 ≤ m ∧ m < 8) : isC (σ.1 5) (mvd σ c m) ∧ rg (mvd σ c m) := by
  unfold mvd
  split
  · exact ⟨Or.inl rfl, by decide⟩
  · rename_i g
    have hkc := isC_k hc g
    have hmo := mOf_r (c := c)
    have hth := thn_r hmo.1 hmo.2 hm.1 hm.2
    obtain ⟨-, ht, -, -⟩ := hk.2 _ hkc.1 hkc.2
    have hli := lie_r (mir := σ.2 3 (kOf c)) ht hth.1 hth.2
    have hs := sOf_r hr
    have hk1 := hk.1
    unfold cel isC rg
    omega
theorem c_X1_turn {m : Int} (hK : kok σ) (hG : gok σ) (h1 : σ.1 24 ≠ 0 ∧ 0 ≤ m ∧ m < 8 → ∀ (f g : Int → Int) (x y : Int), K (some (xI 1)) (ov (nu (nu (nu (nu (au (au (au (au σ 20 (rfill (σ.2 20) 0 (σ.1 24 * σ.1 25) (tc_ σ m))) 21 f) 22 (rfill (σ.2 22) 0 (σ.1 24 * σ.1 25) (ti_ σ m))) 23 g) 18 x) 19 y) 24 (mvR m (σ.1 24) (σ.1 25))) 25 (mvC m (σ.1 24) (σ.1 25))) G0)) (h0 : ¬ (σ.1 24 ≠ 0 ∧ 0 ≤ m ∧ m < 8) → K (some (xI 0)) (ov σ G0)) : tvW mX1_turn (d + 2) K 0 [some (xR mR), some (xI m), none, none, none, none] [] (ov σ G0) bc bs := by
  have bad : ¬ (σ.1 24 ≠ 0 ∧ 0 ≤ m ∧ m < 8) → tvW mX1_turn (d + 2) K 14 [some (xR mR), some (xI m), none, none, none, none] [] (ov σ G0) bc bs := by
    intro q
    refine w_iconst (pc' := 15) dX1_turn_14 rfl (by decide) ?_
    -- at 15: .ireturn
    try simp (decide := true) only [au_1, nu_2, au_lt, nu_lt, aw_e, nw_e, au_s, au_n, nu_s, nu_n, au_au, nu_nu, au_nu]
    refine w_zreturn dX1_turn_15 rfl (by first | exact Or.inl rfl | exact Or.inr rfl | omega) ?_
    exact h0 q
  refine w_aload_n (pc' := 1) dX1_turn_0 rfl rfl ?_
  refine w_mgi 24 (pc' := 4) dX1_turn_1 rfl fX1_221_1 rfl ?_
  refine w_if_eq (pc' := 7) (tgt := 14) dX1_turn_4 rfl rfl (fun g4 => by exact bad (by omega)) (fun g4 => ?_)
  refine w_iload_n (pc' := 8) dX1_turn_7 rfl rfl ?_
  refine w_callS1 (pc' := 11) (mc := 0) (ms := 0) dX1_turn_8 rfl tX1_isMove q1259 q1258 rfl (Nat.le_of_ble_eq_true rfl) (Nat.le_of_ble_eq_true rfl) ?_
  refine c_X1_isMove  (fun g8a g8b => w_p1 ?_) (fun g8 => w_p1 ?_)
  rotate_left
  · refine w_if_ne (pc' := 14) (tgt := 16) dX1_turn_11 rfl rfl (fun h_ => False.elim (by omega)) (fun h_ => ?_)
    exact bad (by omega)
  refine w_if_ne (pc' := 14) (tgt := 16) dX1_turn_11 rfl rfl (fun h_ => ?_) (fun h_ => False.elim (by omega))
  -- at 16: .iload_n 1
  have hm : 0 ≤ m ∧ m < 8 := ⟨g8a, g8b⟩
  have e1 := bAnd_1 m
  obtain ⟨hg, hc⟩ := hG
  obtain ⟨hgr, hgc⟩ : (1 ≤ σ.1 24 ∧ σ.1 24 ≤ 20) ∧ (1 ≤ σ.1 25 ∧ σ.1 25 ≤ 20) := by omega
  have h1 := h1 ⟨by omega, hm⟩
  have hmul : mvR m (σ.1 24) (σ.1 25) * mvC m (σ.1 24) (σ.1 25) = σ.1 24 * σ.1 25 := by
    unfold mvR mvC; split
    · rfl
    · exact Int.mul_comm _ _
  have hmR : 1 ≤ mvR m (σ.1 24) (σ.1 25) ∧ mvR m (σ.1 24) (σ.1 25) ≤ 20 := by unfold mvR; split <;> omega
  have hmC : 1 ≤ mvC m (σ.1 24) (σ.1 25) ∧ mvC m (σ.1 24) (σ.1 25) ≤ 20 := by unfold mvC; split <;> omega
  have hN := mlr (A := 20) (B := 20) (a := σ.1 24) (b := σ.1 25) (by omega) (by omega) (by omega) (by omega)
  have main : tvW mX1_turn (d + 2) K 52 [some (xR mR), some (xI m), some (xI (mvR m (σ.1 24) (σ.1 25))), some (xI (mvC m (σ.1 24) (σ.1 25))), none, none] [] (ov σ G0) bc bs := by
    have htc : tc_ σ m = fun k => mvd σ (σ.2 20 (cfI m (σ.1 24) (k / mvC m (σ.1 24) (σ.1 25)) (k % mvC m (σ.1 24) (σ.1 25)) * σ.1 25 + cfJ m (σ.1 25) (k / mvC m (σ.1 24) (σ.1 25)) (k % mvC m (σ.1 24) (σ.1 25)))) m := rfl
    have hti : ti_ σ m = fun k => σ.2 22 (cfI m (σ.1 24) (k / mvC m (σ.1 24) (σ.1 25)) (k % mvC m (σ.1 24) (σ.1 25)) * σ.1 25 + cfJ m (σ.1 25) (k / mvC m (σ.1 24) (σ.1 25)) (k % mvC m (σ.1 24) (σ.1 25))) := rfl
    have hcf : ∀ k, 0 ≤ k → k < σ.1 24 * σ.1 25 → ∃ i j, k / mvC m (σ.1 24) (σ.1 25) = i ∧ k % mvC m (σ.1 24) (σ.1 25) = j ∧ (0 ≤ i ∧ i < 20) ∧ (0 ≤ j ∧ j < 20) ∧ (0 ≤ cfI m (σ.1 24) i j ∧ cfI m (σ.1 24) i j < σ.1 24) ∧ 0 ≤ cfJ m (σ.1 25) i j ∧ cfJ m (σ.1 25) i j < σ.1 25 := by
      intro k k0 k1
      obtain ⟨⟨a0, a1⟩, ⟨b0, b1⟩, -⟩ := dvc (c := mvC m (σ.1 24) (σ.1 25)) (r := mvR m (σ.1 24) (σ.1 25)) (by omega) k0 (by rw [hmul]; exact k1)
      refine ⟨_, _, rfl, rfl, by omega, by omega, cf_r hm a0 a1 b0 b1⟩
    generalize mvR m (σ.1 24) (σ.1 25) = rR at *
    generalize mvC m (σ.1 24) (σ.1 25) = rC at *
    have l2 : ∀ f g x y, (∀ k, 0 ≤ k → k < σ.1 24 * σ.1 25 → f k = tc_ σ m k) → (∀ k, 0 ≤ k → k < σ.1 24 * σ.1 25 → g k = ti_ σ m k) → (∀ k, g k = 0 ∨ g k = 1) → ∀ k4 z, tvW mX1_turn (d + 2) K 139 [some (xR mR), some (xI m), some (xI rR), some (xI rC), k4, z] [] (ov (nu (nu (au (au σ 21 f) 23 g) 18 x) 19 y) G0) bc bs := by
      intro f g x y hf hg1 hg2 k4 z
      refine w_iconst (pc' := 140) dX1_turn_139 rfl (by decide) ?_
      refine w_ist4 (pc' := 142) dX1_turn_140 rfl rfl ?_
      -- at 142: .iload 4
      try simp (decide := true) only [au_1, nu_2, au_lt, nu_lt, aw_e, nw_e, au_s, au_n, nu_s, nu_n, au_au, nu_nu, au_nu]
      refine w_ms (τ := nu (nu (au (au (au (au σ 20 (rfill (σ.2 20) 0 0 (tc_ σ m))) 21 f) 22 (rfill (σ.2 22) 0 0 (ti_ σ m))) 23 g) 18 x) 19 y) ?_ ?_
      · rw [rfill_0, rfill_0, au_id, show au (au σ 21 f) 22 (σ.2 22) = au σ 21 f from au_id (σ := au σ 21 f) (k := 22)]
      refine up (T := fun k => tvW mX1_turn (d + 2) K 142 [some (xR mR), some (xI m), some (xI rR), some (xI rC), some (xI k), z] [] (ov (nu (nu (au (au (au (au σ 20 (rfill (σ.2 20) 0 k (tc_ σ m))) 21 f) 22 (rfill (σ.2 22) 0 k (ti_ σ m))) 23 g) 18 x) 19 y) G0) bc bs) (σ.1 24 * σ.1 25) hN.1 ?_ (fun k k0 k1 ih => ?_)
      · refine w_iload (pc' := 144) dX1_turn_142 rfl rfl ?_
        refine w_iload_n (pc' := 145) dX1_turn_144 rfl rfl ?_
        refine w_iload_n (pc' := 146) dX1_turn_145 rfl rfl ?_
        refine w_imul (pc' := 147) dX1_turn_146 rfl ⟨by rw [hmul]; omega, by rw [hmul]; omega⟩ ?_
        -- at 147: .if_icmp .ge 37
        try simp (decide := true) only [au_1, nu_2, au_lt, nu_lt, aw_e, nw_e, au_s, au_n, nu_s, nu_n, au_au, nu_nu, au_nu]
        rw [hmul]
        refine w_icmp_ge (pc' := 150) (tgt := 184) dX1_turn_147 rfl rfl (fun h_ => ?_) (fun h_ => False.elim (by first | omega | (simp (decide := true) only [au_1, nu_2, au_lt, nu_lt, aw_e, nw_e, au_s, au_n, nu_s, nu_n, au_au, nu_nu, au_nu] at h_; omega)))
        refine w_aload_n (pc' := 185) dX1_turn_184 rfl rfl ?_
        refine w_iload_n (pc' := 186) dX1_turn_185 rfl rfl ?_
        refine w_nup 24 (pc' := 189) dX1_turn_186 rfl pX1_221_1 rfl trivial ?_
        try simp (decide := true) only [au_1, nu_2, au_lt, nu_lt, aw_e, nw_e, au_s, au_n, nu_s, nu_n, au_au, nu_nu, au_nu]
        refine w_aload_n (pc' := 190) dX1_turn_189 rfl rfl ?_
        refine w_iload_n (pc' := 191) dX1_turn_190 rfl rfl ?_
        refine w_nup 25 (pc' := 194) dX1_turn_191 rfl pX1_224_1 rfl trivial ?_
        try simp (decide := true) only [au_1, nu_2, au_lt, nu_lt, aw_e, nw_e, au_s, au_n, nu_s, nu_n, au_au, nu_nu, au_nu]
        refine w_iconst (pc' := 195) dX1_turn_194 rfl (by decide) ?_
        -- at 195: .ireturn
        try simp (decide := true) only [au_1, nu_2, au_lt, nu_lt, aw_e, nw_e, au_s, au_n, nu_s, nu_n, au_au, nu_nu, au_nu]
        refine w_zreturn dX1_turn_195 rfl (by first | exact Or.inl rfl | exact Or.inr rfl | omega) ?_
        exact h1 f g x y
      · have hg3 := hg2 k
        refine w_iload (pc' := 144) dX1_turn_142 rfl rfl ?_
        refine w_iload_n (pc' := 145) dX1_turn_144 rfl rfl ?_
        refine w_iload_n (pc' := 146) dX1_turn_145 rfl rfl ?_
        refine w_imul (pc' := 147) dX1_turn_146 rfl ⟨by rw [hmul]; omega, by rw [hmul]; omega⟩ ?_
        -- at 147: .if_icmp .ge 37
        try simp (decide := true) only [au_1, nu_2, au_lt, nu_lt, aw_e, nw_e, au_s, au_n, nu_s, nu_n, au_au, nu_nu, au_nu]
        rw [hmul]
        refine w_icmp_ge (pc' := 150) (tgt := 184) dX1_turn_147 rfl rfl (fun h_ => False.elim (by first | omega | (simp (decide := true) only [au_1, nu_2, au_lt, nu_lt, aw_e, nw_e, au_s, au_n, nu_s, nu_n, au_au, nu_nu, au_nu] at h_; omega))) (fun h_ => ?_)
        refine w_aload_n (pc' := 151) dX1_turn_150 rfl rfl ?_
        refine w_mga 20 (pc' := 154) dX1_turn_151 rfl fX1_52_1 rfl ?_
        refine w_iload (pc' := 156) dX1_turn_154 rfl rfl ?_
        refine w_aload_n (pc' := 157) dX1_turn_156 rfl rfl ?_
        refine w_mga 21 (pc' := 160) dX1_turn_157 rfl fX1_55_1 rfl ?_
        refine w_iload (pc' := 162) dX1_turn_160 rfl rfl ?_
        refine w_mild (pc' := 163) dX1_turn_162 rfl rfl (by first | omega | (simp (decide := true) only [au_1, nu_2, au_lt, nu_lt, aw_e, nw_e, au_s, au_n, nu_s, nu_n, au_au, nu_nu, au_nu]; omega)) (by first | omega | (simp (decide := true) only [au_1, nu_2, au_lt, nu_lt, aw_e, nw_e, au_s, au_n, nu_s, nu_n, au_au, nu_nu, au_nu]; omega)) ?_
        refine w_aui (pc' := 164) dX1_turn_163 rfl rfl (by first | omega | (simp (decide := true) only [au_1, nu_2, au_lt, nu_lt, aw_e, nw_e, au_s, au_n, nu_s, nu_n, au_au, nu_nu, au_nu]; omega)) (by first | omega | (simp (decide := true) only [au_1, nu_2, au_lt, nu_lt, aw_e, nw_e, au_s, au_n, nu_s, nu_n, au_au, nu_nu, au_nu]; omega)) ?_
        try simp (decide := true) only [au_1, nu_2, au_lt, nu_lt, aw_e, nw_e, au_s, au_n, nu_s, nu_n, au_au, nu_nu, au_nu]
        refine w_aload_n (pc' := 165) dX1_turn_164 rfl rfl ?_
        refine w_mga 22 (pc' := 168) dX1_turn_165 rfl fX1_58_1 rfl ?_
        refine w_iload (pc' := 170) dX1_turn_168 rfl rfl ?_
        refine w_aload_n (pc' := 171) dX1_turn_170 rfl rfl ?_
        refine w_mga 23 (pc' := 174) dX1_turn_171 rfl fX1_61_1 rfl ?_
        refine w_iload (pc' := 176) dX1_turn_174 rfl rfl ?_
        refine w_mzld (pc' := 177) dX1_turn_176 rfl rfl (by first | omega | (simp (decide := true) only [au_1, nu_2, au_lt, nu_lt, aw_e, nw_e, au_s, au_n, nu_s, nu_n, au_au, nu_nu, au_nu]; omega)) (by first | omega | (simp (decide := true) only [au_1, nu_2, au_lt, nu_lt, aw_e, nw_e, au_s, au_n, nu_s, nu_n, au_au, nu_nu, au_nu]; omega)) ?_
        refine w_auz (pc' := 178) dX1_turn_177 rfl rfl (by first | omega | (simp (decide := true) only [au_1, nu_2, au_lt, nu_lt, aw_e, nw_e, au_s, au_n, nu_s, nu_n, au_au, nu_nu, au_nu]; omega)) (by first | omega | (simp (decide := true) only [au_1, nu_2, au_lt, nu_lt, aw_e, nw_e, au_s, au_n, nu_s, nu_n, au_au, nu_nu, au_nu]; omega)) (by first | omega | (simp (decide := true) only [au_1, nu_2, au_lt, nu_lt, aw_e, nw_e, au_s, au_n, nu_s, nu_n, au_au, nu_nu, au_nu]; omega)) ?_
        try simp (decide := true) only [au_1, nu_2, au_lt, nu_lt, aw_e, nw_e, au_s, au_n, nu_s, nu_n, au_au, nu_nu, au_nu]
        refine w_inc4 (pc' := 181) dX1_turn_178 rfl rfl ⟨by first | omega | (simp (decide := true) only [au_1, nu_2, au_lt, nu_lt, aw_e, nw_e, au_s, au_n, nu_s, nu_n, au_au, nu_nu, au_nu]; omega), by first | omega | (simp (decide := true) only [au_1, nu_2, au_lt, nu_lt, aw_e, nw_e, au_s, au_n, nu_s, nu_n, au_au, nu_nu, au_nu]; omega)⟩ ?_
        refine w_goto (tgt := 142) dX1_turn_181 rfl ?_
        -- at 142: .iload 4
        try simp (decide := true) only [au_1, nu_2, au_lt, nu_lt, aw_e, nw_e, au_s, au_n, nu_s, nu_n, au_au, nu_nu, au_nu]
        refine w_ms ?_ ih
        congr 6
        · exact rfill_s' k0 (by omega) (by rw [Int.zero_add]; exact hf k k0 k1)
        · exact rfill_s' k0 (by omega) (by rw [Int.zero_add]; exact hg1 k k0 k1)
    refine w_mok (fun _ hok => ?_)
    refine w_iconst (pc' := 53) dX1_turn_52 rfl (by decide) ?_
    refine w_ist4 (pc' := 55) dX1_turn_53 rfl rfl ?_
    -- at 55: .iload 4
    try simp (decide := true) only [au_1, nu_2, au_lt, nu_lt, aw_e, nw_e, au_s, au_n, nu_s, nu_n, au_au, nu_nu, au_nu]
    refine w_ms (τ := nu (nu (au (au σ 21 (rfill (σ.2 21) 0 0 (tc_ σ m))) 23 (rfill (σ.2 23) 0 0 (ti_ σ m))) 18 (σ.1 18)) 19 (σ.1 19)) ?_ ?_
    · rw [rfill_0, rfill_0, au_id, au_id, nu_id, nu_id]
    refine up (T := fun k => ∀ (x y : Int) (z : Option XV), tvW mX1_turn (d + 2) K 55 [some (xR mR), some (xI m), some (xI rR), some (xI rC), some (xI k), z] [] (ov (nu (nu (au (au σ 21 (rfill (σ.2 21) 0 k (tc_ σ m))) 23 (rfill (σ.2 23) 0 k (ti_ σ m))) 18 x) 19 y) G0) bc bs) (σ.1 24 * σ.1 25) hN.1 (fun x y z => ?_) (fun k k0 k1 ih x y z => ?_) _ _ none
    · refine w_mok (fun _ hok2 => ?_)
      refine w_iload (pc' := 57) dX1_turn_55 rfl rfl ?_
      refine w_iload_n (pc' := 58) dX1_turn_57 rfl rfl ?_
      refine w_iload_n (pc' := 59) dX1_turn_58 rfl rfl ?_
      refine w_imul (pc' := 60) dX1_turn_59 rfl ⟨by rw [hmul]; omega, by rw [hmul]; omega⟩ ?_
      -- at 60: .if_icmp .ge 79
      try simp (decide := true) only [au_1, nu_2, au_lt, nu_lt, aw_e, nw_e, au_s, au_n, nu_s, nu_n, au_au, nu_nu, au_nu]
      rw [hmul]
      refine w_icmp_ge (pc' := 63) (tgt := 139) dX1_turn_60 rfl rfl (fun h_ => ?_) (fun h_ => False.elim (by first | omega | (simp (decide := true) only [au_1, nu_2, au_lt, nu_lt, aw_e, nw_e, au_s, au_n, nu_s, nu_n, au_au, nu_nu, au_nu] at h_; omega)))
      exact l2 _ _ _ _ (fun k k0 k1 => rfill_in (by omega) (by omega)) (fun k k0 k1 => rfill_in (by omega) (by omega)) (fun k => hok2 23 3 400 rfl k) _ _
    · obtain ⟨i, j, hi, hj, bi, bj, ci, cj⟩ := hcf k k0 k1
      have hx := ixr ci.1 ci.2 cj.1 cj.2
      have hx0 := mlr (A := 19) (B := 20) (a := cfI m (σ.1 24) i j) (b := σ.1 25) (by omega) (by omega) (by omega) (by omega)
      have ht : tc_ σ m k = mvd σ (σ.2 20 (cfI m (σ.1 24) i j * σ.1 25 + cfJ m (σ.1 25) i j)) m := by rw [htc, ← hi, ← hj]
      have ht2 : ti_ σ m k = σ.2 22 (cfI m (σ.1 24) i j * σ.1 25 + cfJ m (σ.1 25) i j) := by rw [hti, ← hi, ← hj]
      have hz : σ.2 22 (cfI m (σ.1 24) i j * σ.1 25 + cfJ m (σ.1 25) i j) = 0 ∨ σ.2 22 (cfI m (σ.1 24) i j * σ.1 25 + cfJ m (σ.1 25) i j) = 1 := hok 22 3 400 rfl _
      refine w_iload (pc' := 57) dX1_turn_55 rfl rfl ?_
      refine w_iload_n (pc' := 58) dX1_turn_57 rfl rfl ?_
      refine w_iload_n (pc' := 59) dX1_turn_58 rfl rfl ?_
      refine w_imul (pc' := 60) dX1_turn_59 rfl ⟨by rw [hmul]; omega, by rw [hmul]; omega⟩ ?_
      -- at 60: .if_icmp .ge 79
      try simp (decide := true) only [au_1, nu_2, au_lt, nu_lt, aw_e, nw_e, au_s, au_n, nu_s, nu_n, au_au, nu_nu, au_nu]
      rw [hmul]
      refine w_icmp_ge (pc' := 63) (tgt := 139) dX1_turn_60 rfl rfl (fun h_ => False.elim (by first | omega | (simp (decide := true) only [au_1, nu_2, au_lt, nu_lt, aw_e, nw_e, au_s, au_n, nu_s, nu_n, au_au, nu_nu, au_nu] at h_; omega))) (fun h_ => ?_)
      refine w_aload_n (pc' := 64) dX1_turn_63 rfl rfl ?_
      refine w_iload_n (pc' := 65) dX1_turn_64 rfl rfl ?_
      refine w_aload_n (pc' := 66) dX1_turn_65 rfl rfl ?_
      refine w_mgi 24 (pc' := 69) dX1_turn_66 rfl fX1_221_1 rfl ?_
      refine w_aload_n (pc' := 70) dX1_turn_69 rfl rfl ?_
      refine w_mgi 25 (pc' := 73) dX1_turn_70 rfl fX1_224_1 rfl ?_
      refine w_iload (pc' := 75) dX1_turn_73 rfl rfl ?_
      refine w_iload_n (pc' := 76) dX1_turn_75 rfl rfl ?_
      refine w_idiv (pc' := 77) dX1_turn_76 rfl (by first | omega | (simp (decide := true) only [au_1, nu_2, au_lt, nu_lt, aw_e, nw_e, au_s, au_n, nu_s, nu_n, au_au, nu_nu, au_nu]; omega)) (by first | omega | (simp (decide := true) only [au_1, nu_2, au_lt, nu_lt, aw_e, nw_e, au_s, au_n, nu_s, nu_n, au_au, nu_nu, au_nu]; omega)) ?_
      refine w_iload (pc' := 79) dX1_turn_77 rfl rfl ?_
      refine w_iload_n (pc' := 80) dX1_turn_79 rfl rfl ?_
      refine w_irem (pc' := 81) dX1_turn_80 rfl (by first | omega | (simp (decide := true) only [au_1, nu_2, au_lt, nu_lt, aw_e, nw_e, au_s, au_n, nu_s, nu_n, au_au, nu_nu, au_nu]; omega)) (by first | omega | (simp (decide := true) only [au_1, nu_2, au_lt, nu_lt, aw_e, nw_e, au_s, au_n, nu_s, nu_n, au_au, nu_nu, au_nu]; omega)) ?_
      -- at 81: .invokevirtual 227
      try simp (decide := true) only [au_1, nu_2, au_lt, nu_lt, aw_e, nw_e, au_s, au_n, nu_s, nu_n, au_au, nu_nu, au_nu]
      try simp (decide := true) only [au_1, nu_2, au_lt, nu_lt, aw_e, nw_e, au_s, au_n, nu_s, nu_n, au_au, nu_nu, au_nu]
      rw [hi, hj]
      refine w_callV5 (pc' := 84) (mc := 0) (ms := 0) dX1_turn_81 rfl tX1_comesFrom q1387 rfl rfl qs52 q1385 ov_o rfl (Nat.le_of_ble_eq_true rfl) (Nat.le_of_ble_eq_true rfl) ?_
      refine c_X1_comesFrom hm (by omega) (by omega) (by omega) (by omega) ?_
      refine w_p0 ?_
      try simp (decide := true) only [au_1, nu_2, au_lt, nu_lt, aw_e, nw_e, au_s, au_n, nu_s, nu_n, au_au, nu_nu, au_nu]
      refine w_aload_n (pc' := 85) dX1_turn_84 rfl rfl ?_
      refine w_mgi 18 (pc' := 88) dX1_turn_85 rfl fX1_215_1 rfl ?_
      refine w_aload_n (pc' := 89) dX1_turn_88 rfl rfl ?_
      refine w_mgi 25 (pc' := 92) dX1_turn_89 rfl fX1_224_1 rfl ?_
      refine w_imul (pc' := 93) dX1_turn_92 rfl ⟨by first | omega | (simp (decide := true) only [au_1, nu_2, au_lt, nu_lt, aw_e, nw_e, au_s, au_n, nu_s, nu_n, au_au, nu_nu, au_nu]; omega), by first | omega | (simp (decide := true) only [au_1, nu_2, au_lt, nu_lt, aw_e, nw_e, au_s, au_n, nu_s, nu_n, au_au, nu_nu, au_nu]; omega)⟩ ?_
      refine w_aload_n (pc' := 94) dX1_turn_93 rfl rfl ?_
      refine w_mgi 19 (pc' := 97) dX1_turn_94 rfl fX1_218_1 rfl ?_
      refine w_iadd (pc' := 98) dX1_turn_97 rfl ⟨by first | omega | (simp (decide := true) only [au_1, nu_2, au_lt, nu_lt, aw_e, nw_e, au_s, au_n, nu_s, nu_n, au_au, nu_nu, au_nu]; omega), by first | omega | (simp (decide := true) only [au_1, nu_2, au_lt, nu_lt, aw_e, nw_e, au_s, au_n, nu_s, nu_n, au_au, nu_nu, au_nu]; omega)⟩ ?_
      refine w_ist5 (pc' := 100) dX1_turn_98 rfl rfl ?_
      refine w_aload_n (pc' := 101) dX1_turn_100 rfl rfl ?_
      refine w_mga 21 (pc' := 104) dX1_turn_101 rfl fX1_55_1 rfl ?_
      refine w_iload (pc' := 106) dX1_turn_104 rfl rfl ?_
      refine w_aload_n (pc' := 107) dX1_turn_106 rfl rfl ?_
      refine w_aload_n (pc' := 108) dX1_turn_107 rfl rfl ?_
      refine w_mga 20 (pc' := 111) dX1_turn_108 rfl fX1_52_1 rfl ?_
      refine w_iload (pc' := 113) dX1_turn_111 rfl rfl ?_
      refine w_mild (pc' := 114) dX1_turn_113 rfl rfl (by first | omega | (simp (decide := true) only [au_1, nu_2, au_lt, nu_lt, aw_e, nw_e, au_s, au_n, nu_s, nu_n, au_au, nu_nu, au_nu]; omega)) (by first | omega | (simp (decide := true) only [au_1, nu_2, au_lt, nu_lt, aw_e, nw_e, au_s, au_n, nu_s, nu_n, au_au, nu_nu, au_nu]; omega)) ?_
      refine w_iload_n (pc' := 115) dX1_turn_114 rfl rfl ?_
      -- at 115: .invokevirtual 231
      try simp (decide := true) only [au_1, nu_2, au_lt, nu_lt, aw_e, nw_e, au_s, au_n, nu_s, nu_n, au_au, nu_nu, au_nu]
      try simp (decide := true) only [au_1, nu_2, au_lt, nu_lt, aw_e, nw_e, au_s, au_n, nu_s, nu_n, au_au, nu_nu, au_nu]
      refine w_callV2 (pc' := 118) (mc := 0) (ms := 0) dX1_turn_115 rfl tX1_moved q1391 rfl rfl qs53 q1389 ov_o rfl (Nat.le_of_ble_eq_true rfl) (Nat.le_of_ble_eq_true rfl) ?_
      refine c_X1_moved (show kok _ from hK) (show isC (σ.1 5) _ from (hc _ hx.1 hx.2).1) (hok 20 0 400 rfl _) hm ?_
      refine w_p1 ?_
      refine w_st (st' := [xI (tc_ σ m k), xI k, xR (mr 21)]) (by rw [ht]; rfl) ?_
      refine w_aui (pc' := 119) dX1_turn_118 rfl rfl (by first | omega | (simp (decide := true) only [au_1, nu_2, au_lt, nu_lt, aw_e, nw_e, au_s, au_n, nu_s, nu_n, au_au, nu_nu, au_nu]; omega)) (by first | omega | (simp (decide := true) only [au_1, nu_2, au_lt, nu_lt, aw_e, nw_e, au_s, au_n, nu_s, nu_n, au_au, nu_nu, au_nu]; omega)) ?_
      try simp (decide := true) only [au_1, nu_2, au_lt, nu_lt, aw_e, nw_e, au_s, au_n, nu_s, nu_n, au_au, nu_nu, au_nu]
      refine w_aload_n (pc' := 120) dX1_turn_119 rfl rfl ?_
      refine w_mga 23 (pc' := 123) dX1_turn_120 rfl fX1_61_1 rfl ?_
      refine w_iload (pc' := 125) dX1_turn_123 rfl rfl ?_
      refine w_aload_n (pc' := 126) dX1_turn_125 rfl rfl ?_
      refine w_mga 22 (pc' := 129) dX1_turn_126 rfl fX1_58_1 rfl ?_
      refine w_iload (pc' := 131) dX1_turn_129 rfl rfl ?_
      refine w_mzld (pc' := 132) dX1_turn_131 rfl rfl (by first | omega | (simp (decide := true) only [au_1, nu_2, au_lt, nu_lt, aw_e, nw_e, au_s, au_n, nu_s, nu_n, au_au, nu_nu, au_nu]; omega)) (by first | omega | (simp (decide := true) only [au_1, nu_2, au_lt, nu_lt, aw_e, nw_e, au_s, au_n, nu_s, nu_n, au_au, nu_nu, au_nu]; omega)) ?_
      refine w_auz (pc' := 133) dX1_turn_132 rfl rfl (by first | omega | (simp (decide := true) only [au_1, nu_2, au_lt, nu_lt, aw_e, nw_e, au_s, au_n, nu_s, nu_n, au_au, nu_nu, au_nu]; omega)) (by first | omega | (simp (decide := true) only [au_1, nu_2, au_lt, nu_lt, aw_e, nw_e, au_s, au_n, nu_s, nu_n, au_au, nu_nu, au_nu]; omega)) hz ?_
      try simp (decide := true) only [au_1, nu_2, au_lt, nu_lt, aw_e, nw_e, au_s, au_n, nu_s, nu_n, au_au, nu_nu, au_nu]
      refine w_inc4 (pc' := 136) dX1_turn_133 rfl rfl ⟨by first | omega | (simp (decide := true) only [au_1, nu_2, au_lt, nu_lt, aw_e, nw_e, au_s, au_n, nu_s, nu_n, au_au, nu_nu, au_nu]; omega), by first | omega | (simp (decide := true) only [au_1, nu_2, au_lt, nu_lt, aw_e, nw_e, au_s, au_n, nu_s, nu_n, au_au, nu_nu, au_nu]; omega)⟩ ?_
      refine w_goto (tgt := 55) dX1_turn_136 rfl ?_
      -- at 55: .iload 4
      try simp (decide := true) only [au_1, nu_2, au_lt, nu_lt, aw_e, nw_e, au_s, au_n, nu_s, nu_n, au_au, nu_nu, au_nu]
      rw [← ht2]
      refine w_ms ?_ (ih (cfI m (σ.1 24) i j) (cfJ m (σ.1 25) i j) _)
      congr 4
      · exact rfill_s' k0 (by omega) (by rw [Int.zero_add])
      · exact rfill_s' k0 (by omega) (by rw [Int.zero_add])
  refine w_iload_n (pc' := 17) dX1_turn_16 rfl rfl ?_
  refine w_iconst (pc' := 18) dX1_turn_17 rfl (by decide) ?_
  refine w_iand (pc' := 19) dX1_turn_18 rfl ?_
  -- at 19: .ifCond .ne 10
  try simp (decide := true) only [au_1, nu_2, au_lt, nu_lt, aw_e, nw_e, au_s, au_n, nu_s, nu_n, au_au, nu_nu, au_nu]
  refine w_if_ne (pc' := 22) (tgt := 29) dX1_turn_19 rfl rfl (fun g => ?_) (fun g => ?_)
  · rw [show mvR m (σ.1 24) (σ.1 25) = σ.1 25 by unfold mvR; rw [if_neg (by omega)], show mvC m (σ.1 24) (σ.1 25) = σ.1 24 by unfold mvC; rw [if_neg (by omega)]] at main
    refine w_aload_n (pc' := 30) dX1_turn_29 rfl rfl ?_
    refine w_mgi 25 (pc' := 33) dX1_turn_30 rfl fX1_224_1 rfl ?_
    refine w_ist2 (pc' := 34) dX1_turn_33 rfl rfl ?_
    refine w_iload_n (pc' := 35) dX1_turn_34 rfl rfl ?_
    refine w_iconst (pc' := 36) dX1_turn_35 rfl (by decide) ?_
    refine w_iand (pc' := 37) dX1_turn_36 rfl ?_
    -- at 37: .ifCond .ne 10
    try simp (decide := true) only [au_1, nu_2, au_lt, nu_lt, aw_e, nw_e, au_s, au_n, nu_s, nu_n, au_au, nu_nu, au_nu]
    refine w_if_ne (pc' := 40) (tgt := 47) dX1_turn_37 rfl rfl (fun h_ => ?_) (fun h_ => False.elim (by first | omega | (simp (decide := true) only [au_1, nu_2, au_lt, nu_lt, aw_e, nw_e, au_s, au_n, nu_s, nu_n, au_au, nu_nu, au_nu] at h_; omega)))
    refine w_aload_n (pc' := 48) dX1_turn_47 rfl rfl ?_
    refine w_mgi 24 (pc' := 51) dX1_turn_48 rfl fX1_221_1 rfl ?_
    refine w_ist3 (pc' := 52) dX1_turn_51 rfl rfl ?_
    -- at 52: .iconst 0
    try simp (decide := true) only [au_1, nu_2, au_lt, nu_lt, aw_e, nw_e, au_s, au_n, nu_s, nu_n, au_au, nu_nu, au_nu]
    exact main
  · rw [show mvR m (σ.1 24) (σ.1 25) = σ.1 24 by unfold mvR; rw [if_pos (by omega)], show mvC m (σ.1 24) (σ.1 25) = σ.1 25 by unfold mvC; rw [if_pos (by omega)]] at main
    refine w_aload_n (pc' := 23) dX1_turn_22 rfl rfl ?_
    refine w_mgi 24 (pc' := 26) dX1_turn_23 rfl fX1_221_1 rfl ?_
    refine w_goto (tgt := 33) dX1_turn_26 rfl ?_
    refine w_ist2 (pc' := 34) dX1_turn_33 rfl rfl ?_
    refine w_iload_n (pc' := 35) dX1_turn_34 rfl rfl ?_
    refine w_iconst (pc' := 36) dX1_turn_35 rfl (by decide) ?_
    refine w_iand (pc' := 37) dX1_turn_36 rfl ?_
    -- at 37: .ifCond .ne 10
    try simp (decide := true) only [au_1, nu_2, au_lt, nu_lt, aw_e, nw_e, au_s, au_n, nu_s, nu_n, au_au, nu_nu, au_nu]
    refine w_if_ne (pc' := 40) (tgt := 47) dX1_turn_37 rfl rfl (fun h_ => False.elim (by first | omega | (simp (decide := true) only [au_1, nu_2, au_lt, nu_lt, aw_e, nw_e, au_s, au_n, nu_s, nu_n, au_au, nu_nu, au_nu] at h_; omega))) (fun h_ => ?_)
    refine w_aload_n (pc' := 41) dX1_turn_40 rfl rfl ?_
    refine w_mgi 25 (pc' := 44) dX1_turn_41 rfl fX1_224_1 rfl ?_
    refine w_goto (tgt := 51) dX1_turn_44 rfl ?_
    refine w_ist3 (pc' := 52) dX1_turn_51 rfl rfl ?_
    -- at 52: .iconst 0
    try simp (decide := true) only [au_1, nu_2, au_lt, nu_lt, aw_e, nw_e, au_s, au_n, nu_s, nu_n, au_au, nu_nu, au_nu]
    exact main
end
