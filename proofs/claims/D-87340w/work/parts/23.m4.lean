set_option maxRecDepth 10000
theorem pl_b {v : Int} {n : Nat} (h0 : 0 ≤ v) (h : (2 * v + 1) * (256 ^ (n + 1) : Nat) ≤ 18446744073709551616) : v < 36028797018963968 := by
  have hp : (2 * v + 1) * (256 ^ (n + 1) : Nat) = (2 * v + 1) * 256 * (256 ^ n : Nat) := by
    rw [Nat.pow_succ, Int.natCast_mul, Int.mul_comm ((256 ^ n : Nat) : Int), ← Int.mul_assoc]; rfl
  have hq : (1 : Int) ≤ (256 ^ n : Nat) := by have := Nat.one_le_pow n 256 (by decide); omega
  have := Int.mul_le_mul_of_nonneg_left (c := (2 * v + 1) * 256) hq (by omega)
  omega
theorem pl_n {v c : Int} {n : Nat} (h0 : 0 ≤ v) (hc : 0 ≤ c ∧ c ≤ 122) (h : (2 * v + 1) * (256 ^ (n + 1) : Nat) ≤ 18446744073709551616) : (2 * (v * 256 + c) + 1) * (256 ^ n : Nat) ≤ 18446744073709551616 ∧ (2 * v + 1) * (256 ^ n : Nat) ≤ 18446744073709551616 := by
  have hp : (2 * v + 1) * (256 ^ (n + 1) : Nat) = (2 * v + 1) * 256 * (256 ^ n : Nat) := by
    rw [Nat.pow_succ, Int.natCast_mul, Int.mul_comm ((256 ^ n : Nat) : Int), ← Int.mul_assoc]; rfl
  have hq : (0 : Int) ≤ (256 ^ n : Nat) := Int.natCast_nonneg _
  exact ⟨Int.le_trans (Int.mul_le_mul_of_nonneg_right (by omega) hq) (hp ▸ h), Int.le_trans (Int.mul_le_mul_of_nonneg_right (by omega) hq) (hp ▸ h)⟩
def plain (name : Int) : Int := pl name 8 0
theorem plain_r (name : Int) : 0 ≤ plain name ∧ plain name < 9223372036854775808 := pl_r name 8 0 (by omega) (by decide)
section
variable {d : Nat} {K : Option XV → GH → Prop} {G0 G : GH} {bc bs : Nat} {σ : MS} {M : tv_M} {pc : Nat} {L : List (Option XV)} {st : List XV}
theorem c_X1_plain {a : Int} (hr : rgL a) (h : K (some (xL (plain a))) G) : tvW mX1_plain d K 0 [some (xL a), none, none, none, none, none, none] [] G bc bs := by
  have loop : ∀ (n : Nat) (v c k : Int), n ≤ 8 → k = 8 * n - 8 → 0 ≤ v → (2 * v + 1) * (256 ^ n : Nat) ≤ 18446744073709551616 → pl a n v = plain a → ∀ L5 : Option XV, tvW mX1_plain d K 6 [some (xL a), none, some (xL v), none, some (xI k), L5, none] [] G bc bs := by
    intro n
    induction n with
    | zero =>
      intro v c k hn hk h0 h1 hp L5
      refine w_iload (pc' := 8) dX1_plain_6 rfl rfl ?_
      -- at 8: .ifCond .lt 57
      try simp (decide := true) only [au_1, nu_2, au_lt, nu_lt, aw_e, nw_e, au_s, au_n, nu_s, nu_n, au_au, nu_nu, au_nu]
      refine w_if_lt (pc' := 11) (tgt := 65) dX1_plain_8 rfl rfl (fun h_ => ?_) (fun h_ => False.elim (by first | omega | (simp (decide := true) only [au_1, nu_2, au_lt, nu_lt, aw_e, nw_e, au_s, au_n, nu_s, nu_n, au_au, nu_nu, au_nu] at h_; omega)))
      refine w_lload_n (pc' := 66) dX1_plain_65 rfl rfl ?_
      -- at 66: .lreturn
      try simp (decide := true) only [au_1, nu_2, au_lt, nu_lt, aw_e, nw_e, au_s, au_n, nu_s, nu_n, au_au, nu_nu, au_nu]
      refine w_lreturn dX1_plain_66 rfl ?_
      rw [show v = plain a from hp]
      exact h
    | succ n ih =>
      intro v c k hn hk h0 h1 hp L5
      have hb := byt_r a n
      have hv := pl_b h0 h1
      unfold pl at hp
      refine w_iload (pc' := 8) dX1_plain_6 rfl rfl ?_
      -- at 8: .ifCond .lt 57
      try simp (decide := true) only [au_1, nu_2, au_lt, nu_lt, aw_e, nw_e, au_s, au_n, nu_s, nu_n, au_au, nu_nu, au_nu]
      refine w_if_lt (pc' := 11) (tgt := 65) dX1_plain_8 rfl rfl (fun h_ => False.elim (by first | omega | (simp (decide := true) only [au_1, nu_2, au_lt, nu_lt, aw_e, nw_e, au_s, au_n, nu_s, nu_n, au_au, nu_nu, au_nu] at h_; omega))) (fun h_ => ?_)
      refine w_lload_n (pc' := 12) dX1_plain_11 rfl rfl ?_
      refine w_iload (pc' := 14) dX1_plain_12 rfl rfl ?_
      refine w_lshr (pc' := 15) dX1_plain_14 rfl ?_
      refine w_ldc2 (z := 255) (pc' := 18) dX1_plain_15 rfl q1245 (by decide +kernel) (by decide) ?_
      refine w_land (pc' := 19) dX1_plain_18 rfl ?_
      -- at 19: .lstore 5
      try simp (decide := true) only [au_1, nu_2, au_lt, nu_lt, aw_e, nw_e, au_s, au_n, nu_s, nu_n, au_au, nu_nu, au_nu]
      rw [show k = 8 * (n : Int) by omega, byt_m hr (by omega)]
      refine w_lst5 (pc' := 21) dX1_plain_19 rfl rfl ?_
      refine w_lload (pc' := 23) dX1_plain_21 rfl rfl ?_
      refine w_lconst (z := 0) (pc' := 24) dX1_plain_23 rfl rfl (by decide) ?_
      refine w_lcmp (pc' := 25) dX1_plain_24 rfl ?_
      -- at 25: .ifCond .ne 6
      try simp (decide := true) only [au_1, nu_2, au_lt, nu_lt, aw_e, nw_e, au_s, au_n, nu_s, nu_n, au_au, nu_nu, au_nu]
      refine w_if_ne (pc' := 28) (tgt := 31) dX1_plain_25 rfl rfl (fun g1 => ?_) (fun g1 => ?_)
      · have g1 : byt a n ≠ 0 := fun q => g1 (lCmp_eq.mpr q)
        rw [if_neg g1] at hp
        refine w_lload (pc' := 33) dX1_plain_31 rfl rfl ?_
        refine w_ldc2 (z := 97) (pc' := 36) dX1_plain_33 rfl q1246 (by decide +kernel) (by decide) ?_
        refine w_lcmp (pc' := 37) dX1_plain_36 rfl ?_
        -- at 37: .ifCond .lt 12
        try simp (decide := true) only [au_1, nu_2, au_lt, nu_lt, aw_e, nw_e, au_s, au_n, nu_s, nu_n, au_au, nu_nu, au_nu]
        refine w_if_lt (pc' := 40) (tgt := 49) dX1_plain_37 rfl rfl (fun g2 => ?_) (fun g2 => ?_)
        · have g2 := lCmp_lt.mp g2
          rw [if_pos (Or.inl g2)] at hp
          refine w_lconst (z := 0) (pc' := 50) dX1_plain_49 rfl rfl (by decide) ?_
          -- at 50: .lreturn
          try simp (decide := true) only [au_1, nu_2, au_lt, nu_lt, aw_e, nw_e, au_s, au_n, nu_s, nu_n, au_au, nu_nu, au_nu]
          refine w_lreturn dX1_plain_50 rfl ?_
          rw [hp]
          exact h
        · have g2 := lCmp_ge.mp g2
          refine w_lload (pc' := 42) dX1_plain_40 rfl rfl ?_
          refine w_ldc2 (z := 122) (pc' := 45) dX1_plain_42 rfl q1247 (by decide +kernel) (by decide) ?_
          refine w_lcmp (pc' := 46) dX1_plain_45 rfl ?_
          -- at 46: .ifCond .le 5
          try simp (decide := true) only [au_1, nu_2, au_lt, nu_lt, aw_e, nw_e, au_s, au_n, nu_s, nu_n, au_au, nu_nu, au_nu]
          refine w_if_le (pc' := 49) (tgt := 51) dX1_plain_46 rfl rfl (fun g3 => ?_) (fun g3 => ?_)
          · have g3 := lCmp_le.mp g3
            rw [if_neg (by omega)] at hp
            refine w_lload_n (pc' := 52) dX1_plain_51 rfl rfl ?_
            refine w_bipush (pc' := 54) dX1_plain_52 rfl (by decide +kernel) (by decide) ?_
            refine w_lshl (pc' := 55) dX1_plain_54 rfl ?_
            refine w_lload (pc' := 57) dX1_plain_55 rfl rfl ?_
            refine w_lor (pc' := 58) dX1_plain_57 rfl ?_
            refine w_lst2 (pc' := 59) dX1_plain_58 rfl rfl ?_
            refine w_inc4 (pc' := 62) dX1_plain_59 rfl rfl ⟨by first | omega | (simp (decide := true) only [au_1, nu_2, au_lt, nu_lt, aw_e, nw_e, au_s, au_n, nu_s, nu_n, au_au, nu_nu, au_nu]; omega), by first | omega | (simp (decide := true) only [au_1, nu_2, au_lt, nu_lt, aw_e, nw_e, au_s, au_n, nu_s, nu_n, au_au, nu_nu, au_nu]; omega)⟩ ?_
            refine w_goto (tgt := 6) dX1_plain_62 rfl ?_
            -- at 6: .iload 4
            try simp (decide := true) only [au_1, nu_2, au_lt, nu_lt, aw_e, nw_e, au_s, au_n, nu_s, nu_n, au_au, nu_nu, au_nu]
            rw [lShl_8 h0 hv, lOr_add h0 hv hb.1 hb.2]
            exact ih _ c _ (by omega) (by omega) (by omega) (pl_n h0 ⟨hb.1, g3⟩ h1).1 hp _
          · have g3 := lCmp_gt.mp (show 0 < lCmp _ _ by omega)
            rw [if_pos (Or.inr g3)] at hp
            refine w_lconst (z := 0) (pc' := 50) dX1_plain_49 rfl rfl (by decide) ?_
            -- at 50: .lreturn
            try simp (decide := true) only [au_1, nu_2, au_lt, nu_lt, aw_e, nw_e, au_s, au_n, nu_s, nu_n, au_au, nu_nu, au_nu]
            refine w_lreturn dX1_plain_50 rfl ?_
            rw [hp]
            exact h
      · rw [if_pos (lCmp_eq.mp g1)] at hp
        refine w_goto (tgt := 59) dX1_plain_28 rfl ?_
        refine w_inc4 (pc' := 62) dX1_plain_59 rfl rfl ⟨by first | omega | (simp (decide := true) only [au_1, nu_2, au_lt, nu_lt, aw_e, nw_e, au_s, au_n, nu_s, nu_n, au_au, nu_nu, au_nu]; omega), by first | omega | (simp (decide := true) only [au_1, nu_2, au_lt, nu_lt, aw_e, nw_e, au_s, au_n, nu_s, nu_n, au_au, nu_nu, au_nu]; omega)⟩ ?_
        refine w_goto (tgt := 6) dX1_plain_62 rfl ?_
        -- at 6: .iload 4
        try simp (decide := true) only [au_1, nu_2, au_lt, nu_lt, aw_e, nw_e, au_s, au_n, nu_s, nu_n, au_au, nu_nu, au_nu]
        exact ih v c _ (by omega) (by omega) h0 (pl_n (c := 0) h0 ⟨by omega, by omega⟩ h1).2 hp _
  refine w_lconst (z := 0) (pc' := 1) dX1_plain_0 rfl rfl (by decide) ?_
  refine w_lst2 (pc' := 2) dX1_plain_1 rfl rfl ?_
  refine w_bipush (pc' := 4) dX1_plain_2 rfl (by decide +kernel) (by decide) ?_
  refine w_ist4 (pc' := 6) dX1_plain_4 rfl rfl ?_
  -- at 6: .iload 4
  try simp (decide := true) only [au_1, nu_2, au_lt, nu_lt, aw_e, nw_e, au_s, au_n, nu_s, nu_n, au_au, nu_nu, au_nu]
  exact loop 8 0 0 56 (by omega) (by omega) (by omega) (by decide) rfl _
/-- the kind of a name -/
noncomputable def nmd (σ : MS) (a : Int) : Int := fi (fun k => plain a ≠ 0 ∧ σ.2 4 k = plain a) (σ.1 5)
theorem c_X1_named {a : Int} (hr : rgL a) (hk : 0 ≤ σ.1 5 ∧ σ.1 5 ≤ 40) (h : K (some (xI (nmd σ a))) (ov σ G0)) : tvW mX1_named (d + 1) K 0 [some (xR mR), some (xL a), none, none, none, none] [] (ov σ G0) bc bs := by
  refine w_lload_n (pc' := 1) dX1_named_0 rfl rfl ?_
  -- at 1: .invokestatic 124
  try simp (decide := true) only [au_1, nu_2, au_lt, nu_lt, aw_e, nw_e, au_s, au_n, nu_s, nu_n, au_au, nu_nu, au_nu]
  refine w_callS1 (pc' := 4) (mc := 0) (ms := 0) dX1_named_1 rfl tX1_plain q1243 q1242 rfl (Nat.le_of_ble_eq_true rfl) (Nat.le_of_ble_eq_true rfl) ?_
  refine c_X1_plain hr ?_
  refine w_p1 ?_
  refine w_lst3 (pc' := 5) dX1_named_4 rfl rfl ?_
  refine w_iconst (pc' := 6) dX1_named_5 rfl (by decide) ?_
  refine w_ist5 (pc' := 8) dX1_named_6 rfl rfl ?_
  -- at 8: .iload 5
  try simp (decide := true) only [au_1, nu_2, au_lt, nu_lt, aw_e, nw_e, au_s, au_n, nu_s, nu_n, au_au, nu_nu, au_nu]
  refine up (T := fun i => (∀ j, 0 ≤ j → j < i → ¬ (plain a ≠ 0 ∧ σ.2 4 j = plain a)) → tvW mX1_named (d + 1) K 8 [some (xR mR), some (xL a), none, some (xL (plain a)), none, some (xI i)] [] (ov σ G0) bc bs) (σ.1 5) hk.1 (fun hn => ?_) (fun i h0 h1 ih hn => ?_) (fun j h0 h1 => by omega)
  · refine w_iload (pc' := 10) dX1_named_8 rfl rfl ?_
    refine w_aload_n (pc' := 11) dX1_named_10 rfl rfl ?_
    refine w_mgi 5 (pc' := 14) dX1_named_11 rfl fX1_128_1 rfl ?_
    -- at 14: .if_icmp .ge 30
    try simp (decide := true) only [au_1, nu_2, au_lt, nu_lt, aw_e, nw_e, au_s, au_n, nu_s, nu_n, au_au, nu_nu, au_nu]
    refine w_icmp_ge (pc' := 17) (tgt := 44) dX1_named_14 rfl rfl (fun h_ => ?_) (fun h_ => False.elim (by first | omega | (simp (decide := true) only [au_1, nu_2, au_lt, nu_lt, aw_e, nw_e, au_s, au_n, nu_s, nu_n, au_au, nu_nu, au_nu] at h_; omega)))
    refine w_iconst (pc' := 45) dX1_named_44 rfl (by decide) ?_
    -- at 45: .ireturn
    try simp (decide := true) only [au_1, nu_2, au_lt, nu_lt, aw_e, nw_e, au_s, au_n, nu_s, nu_n, au_au, nu_nu, au_nu]
    refine w_ireturn dX1_named_45 rfl ?_
    rw [show nmd σ a = -1 from fi_no hn] at h
    exact h
  · refine w_iload (pc' := 10) dX1_named_8 rfl rfl ?_
    refine w_aload_n (pc' := 11) dX1_named_10 rfl rfl ?_
    refine w_mgi 5 (pc' := 14) dX1_named_11 rfl fX1_128_1 rfl ?_
    -- at 14: .if_icmp .ge 30
    try simp (decide := true) only [au_1, nu_2, au_lt, nu_lt, aw_e, nw_e, au_s, au_n, nu_s, nu_n, au_au, nu_nu, au_nu]
    refine w_icmp_ge (pc' := 17) (tgt := 44) dX1_named_14 rfl rfl (fun h_ => False.elim (by first | omega | (simp (decide := true) only [au_1, nu_2, au_lt, nu_lt, aw_e, nw_e, au_s, au_n, nu_s, nu_n, au_au, nu_nu, au_nu] at h_; omega))) (fun h_ => ?_)
    refine w_lload_n (pc' := 18) dX1_named_17 rfl rfl ?_
    refine w_lconst (z := 0) (pc' := 19) dX1_named_18 rfl rfl (by decide) ?_
    refine w_lcmp (pc' := 20) dX1_named_19 rfl ?_
    -- at 20: .ifCond .eq 24
    try simp (decide := true) only [au_1, nu_2, au_lt, nu_lt, aw_e, nw_e, au_s, au_n, nu_s, nu_n, au_au, nu_nu, au_nu]
    refine w_if_eq (pc' := 23) (tgt := 44) dX1_named_20 rfl rfl (fun g => ?_) (fun g => ?_)
    · have g := lCmp_eq.mp g
      refine w_iconst (pc' := 45) dX1_named_44 rfl (by decide) ?_
      -- at 45: .ireturn
      try simp (decide := true) only [au_1, nu_2, au_lt, nu_lt, aw_e, nw_e, au_s, au_n, nu_s, nu_n, au_au, nu_nu, au_nu]
      refine w_ireturn dX1_named_45 rfl ?_
      rw [show nmd σ a = -1 from fi_no (fun j j0 j1 q => q.1 g)] at h
      exact h
    · have g : plain a ≠ 0 := fun q => g (lCmp_eq.mpr q)
      refine w_aload_n (pc' := 24) dX1_named_23 rfl rfl ?_
      refine w_mga 4 (pc' := 27) dX1_named_24 rfl fX1_23_1 rfl ?_
      refine w_iload (pc' := 29) dX1_named_27 rfl rfl ?_
      refine w_mlld (pc' := 30) dX1_named_29 rfl rfl (by first | omega | (simp (decide := true) only [au_1, nu_2, au_lt, nu_lt, aw_e, nw_e, au_s, au_n, nu_s, nu_n, au_au, nu_nu, au_nu]; omega)) (by first | omega | (simp (decide := true) only [au_1, nu_2, au_lt, nu_lt, aw_e, nw_e, au_s, au_n, nu_s, nu_n, au_au, nu_nu, au_nu]; omega)) ?_
      refine w_lload_n (pc' := 31) dX1_named_30 rfl rfl ?_
      refine w_lcmp (pc' := 32) dX1_named_31 rfl ?_
      -- at 32: .ifCond .ne 6
      try simp (decide := true) only [au_1, nu_2, au_lt, nu_lt, aw_e, nw_e, au_s, au_n, nu_s, nu_n, au_au, nu_nu, au_nu]
      refine w_if_ne (pc' := 35) (tgt := 38) dX1_named_32 rfl rfl (fun g2 => ?_) (fun g2 => ?_)
      · have g2 : σ.2 4 i ≠ plain a := fun q => g2 (lCmp_eq.mpr q)
        refine w_inc5 (pc' := 41) dX1_named_38 rfl rfl ⟨by first | omega | (simp (decide := true) only [au_1, nu_2, au_lt, nu_lt, aw_e, nw_e, au_s, au_n, nu_s, nu_n, au_au, nu_nu, au_nu]; omega), by first | omega | (simp (decide := true) only [au_1, nu_2, au_lt, nu_lt, aw_e, nw_e, au_s, au_n, nu_s, nu_n, au_au, nu_nu, au_nu]; omega)⟩ ?_
        refine w_goto (tgt := 8) dX1_named_41 rfl ?_
        -- at 8: .iload 5
        try simp (decide := true) only [au_1, nu_2, au_lt, nu_lt, aw_e, nw_e, au_s, au_n, nu_s, nu_n, au_au, nu_nu, au_nu]
        refine ih (fun j j0 j1 => ?_)
        by_cases q : j = i
        · subst q; exact fun q => g2 q.2
        · exact hn j j0 (by omega)
      · have g2 := lCmp_eq.mp g2
        refine w_iload (pc' := 37) dX1_named_35 rfl rfl ?_
        -- at 37: .ireturn
        try simp (decide := true) only [au_1, nu_2, au_lt, nu_lt, aw_e, nw_e, au_s, au_n, nu_s, nu_n, au_au, nu_nu, au_nu]
        refine w_ireturn dX1_named_37 rfl ?_
        rw [show nmd σ a = i from fi_hit h0 h1 ⟨g, g2⟩ hn] at h
        exact h
/-- a kind can be -/
def kcan (σ : MS) (e t c its : Int) : Prop := σ.1 5 < 40 ∧ (0 ≤ e ∧ e ≤ 65535) ∧ (t = 1 ∨ t = 2 ∨ t = 4) ∧ (0 ≤ c ∧ c ≤ 1000) ∧ its ≠ 0 ∧ (t = 1 → e = e % 16 * 4369) ∧ (t = 2 → e % 256 = e / 256)
def sKind (σ : MS) (e t m c its : Int) : MS := nu (au (au (au (au (au σ 0 (iset (σ.2 0) (σ.1 5) e)) 1 (iset (σ.2 1) (σ.1 5) t)) 2 (iset (σ.2 2) (σ.1 5) c)) 3 (iset (σ.2 3) (σ.1 5) m)) 4 (iset (σ.2 4) (σ.1 5) its)) 5 (σ.1 5 + 1)
theorem bAnd_hi {a : Int} (ha : rg a) : bAnd a (-65536) = 0 ↔ 0 ≤ a ∧ a ≤ 65535 := by
  unfold bAnd
  have e : Int32.ofInt a &&& Int32.ofInt (-65536) = Int32.ofInt (a / 65536 * 65536) := by
    apply Int32.toBitVec.inj
    apply BitVec.eq_of_toNat_eq
    rw [Int32.toBitVec_and, BitVec.toNat_and]
    have h1 := tbn a
    have h2 := tbn (a / 65536 * 65536)
    have h3 : (Int32.ofInt (-65536)).toBitVec.toNat = 2 ^ 32 - 2 ^ 16 := by decide +kernel
    rw [h3]
    generalize (Int32.ofInt a).toBitVec.toNat = x at *
    have hx : x < 2 ^ 32 := by omega
    have h4 : x &&& (2 ^ 32 - 2 ^ 16) = x / 2 ^ 16 * 2 ^ 16 := by
      apply Nat.eq_of_testBit_eq
      intro i
      rw [Nat.testBit_and, ← Nat.shiftRight_eq_div_pow, ← Nat.shiftLeft_eq, Nat.testBit_shiftLeft]
      by_cases hi : i < 32
      · have h5 : ∀ k : Fin 32, (2 ^ 32 - 2 ^ 16 : Nat).testBit k.val = decide (16 ≤ k.val) := by decide +kernel
        rw [h5 ⟨i, hi⟩, Nat.testBit_shiftRight]
        by_cases h16 : 16 ≤ i
        · rw [show 16 + (i - 16) = i by omega]; simp [h16]
        · simp [h16]
      · have h6 : x.testBit i = false := Nat.testBit_lt_two_pow (Nat.lt_of_lt_of_le hx (Nat.pow_le_pow_right (by omega) (by omega)))
        rw [Nat.testBit_shiftRight, show 16 + (i - 16) = i by omega, h6]; simp
    rw [h4]
    omega
  obtain ⟨a1, a2⟩ := ha
  rw [e, e_toInt ⟨by omega, by omega⟩]
  omega
theorem c_X1_kind {e t m c a : Int} (hr : rgL a) (hk : 0 ≤ σ.1 5 ∧ σ.1 5 ≤ 40) (hm : m = 0 ∨ m = 1) (he : rg e) (h1 : kcan σ e t c (plain a) ∧ nmd σ a < 0 → K (some (xI (σ.1 5))) (ov (sKind σ e t m c (plain a)) G0)) (h0 : ¬ (kcan σ e t c (plain a) ∧ nmd σ a < 0) → K (some (xI (-1))) (ov σ G0)) : tvW mX1_kind (d + 2) K 0 [some (xR mR), some (xI e), some (xI t), some (xI m), some (xI c), some (xL a), none, none, none, none, none] [] (ov σ G0) bc bs := by
  have e15 := bAnd_15 e
  have no : ∀ x : Option XV, ¬ (kcan σ e t c (plain a) ∧ nmd σ a < 0) → tvW mX1_kind (d + 2) K 141 [some (xR mR), some (xI e), some (xI t), some (xI m), some (xI c), some (xL a), none, some (xL (plain a)), none, some (xI (bAnd e 15)), x] [] (ov σ G0) bc bs := by
    intro x q
    refine w_iconst (pc' := 142) dX1_kind_141 rfl (by decide) ?_
    -- at 142: .ireturn
    try simp (decide := true) only [au_1, nu_2, au_lt, nu_lt, aw_e, nw_e, au_s, au_n, nu_s, nu_n, au_au, nu_nu, au_nu]
    refine w_ireturn dX1_kind_142 rfl ?_
    exact h0 q
  have fin : ∀ can : Int, (can = 1 ∧ kcan σ e t c (plain a) ∨ can = 0 ∧ ¬ kcan σ e t c (plain a)) → tvW mX1_kind (d + 2) K 127 [some (xR mR), some (xI e), some (xI t), some (xI m), some (xI c), some (xL a), none, some (xL (plain a)), none, some (xI (bAnd e 15)), some (xI can)] [] (ov σ G0) bc bs := by
    intro can hc
    refine w_iload (pc' := 129) dX1_kind_127 rfl rfl ?_
    -- at 129: .ifCond .eq 12
    try simp (decide := true) only [au_1, nu_2, au_lt, nu_lt, aw_e, nw_e, au_s, au_n, nu_s, nu_n, au_au, nu_nu, au_nu]
    rcases hc with ⟨rfl, hc⟩ | ⟨rfl, hc⟩
    · refine w_if_eq (pc' := 132) (tgt := 141) dX1_kind_129 rfl rfl (fun h_ => False.elim (by first | omega | (simp (decide := true) only [au_1, nu_2, au_lt, nu_lt, aw_e, nw_e, au_s, au_n, nu_s, nu_n, au_au, nu_nu, au_nu] at h_; omega))) (fun h_ => ?_)
      refine w_aload_n (pc' := 133) dX1_kind_132 rfl rfl ?_
      refine w_lload (pc' := 135) dX1_kind_133 rfl rfl ?_
      -- at 135: .invokevirtual 133
      try simp (decide := true) only [au_1, nu_2, au_lt, nu_lt, aw_e, nw_e, au_s, au_n, nu_s, nu_n, au_au, nu_nu, au_nu]
      refine w_callV1 (pc' := 138) (mc := 0) (ms := 0) dX1_kind_135 rfl tX1_named q1250 rfl rfl q1251 q1249 ov_o rfl (Nat.le_of_ble_eq_true rfl) (Nat.le_of_ble_eq_true rfl) ?_
      refine c_X1_named hr hk ?_
      refine w_p1 ?_
      refine w_if_lt (pc' := 141) (tgt := 143) dX1_kind_138 rfl rfl (fun g => ?_) (fun g => ?_)
      · have hk40 := hc.1
        refine w_aload_n (pc' := 144) dX1_kind_143 rfl rfl ?_
        refine w_mga 0 (pc' := 147) dX1_kind_144 rfl fX1_7_1 rfl ?_
        refine w_aload_n (pc' := 148) dX1_kind_147 rfl rfl ?_
        refine w_mgi 5 (pc' := 151) dX1_kind_148 rfl fX1_128_1 rfl ?_
        refine w_iload_n (pc' := 152) dX1_kind_151 rfl rfl ?_
        refine w_aui (pc' := 153) dX1_kind_152 rfl rfl (by first | omega | (simp (decide := true) only [au_1, nu_2, au_lt, nu_lt, aw_e, nw_e, au_s, au_n, nu_s, nu_n, au_au, nu_nu, au_nu]; omega)) (by first | omega | (simp (decide := true) only [au_1, nu_2, au_lt, nu_lt, aw_e, nw_e, au_s, au_n, nu_s, nu_n, au_au, nu_nu, au_nu]; omega)) ?_
        try simp (decide := true) only [au_1, nu_2, au_lt, nu_lt, aw_e, nw_e, au_s, au_n, nu_s, nu_n, au_au, nu_nu, au_nu]
        refine w_aload_n (pc' := 154) dX1_kind_153 rfl rfl ?_
        refine w_mga 1 (pc' := 157) dX1_kind_154 rfl fX1_13_1 rfl ?_
        refine w_aload_n (pc' := 158) dX1_kind_157 rfl rfl ?_
        refine w_mgi 5 (pc' := 161) dX1_kind_158 rfl fX1_128_1 rfl ?_
        refine w_iload_n (pc' := 162) dX1_kind_161 rfl rfl ?_
        refine w_aui (pc' := 163) dX1_kind_162 rfl rfl (by first | omega | (simp (decide := true) only [au_1, nu_2, au_lt, nu_lt, aw_e, nw_e, au_s, au_n, nu_s, nu_n, au_au, nu_nu, au_nu]; omega)) (by first | omega | (simp (decide := true) only [au_1, nu_2, au_lt, nu_lt, aw_e, nw_e, au_s, au_n, nu_s, nu_n, au_au, nu_nu, au_nu]; omega)) ?_
        try simp (decide := true) only [au_1, nu_2, au_lt, nu_lt, aw_e, nw_e, au_s, au_n, nu_s, nu_n, au_au, nu_nu, au_nu]
        refine w_aload_n (pc' := 164) dX1_kind_163 rfl rfl ?_
        refine w_mga 3 (pc' := 167) dX1_kind_164 rfl fX1_19_1 rfl ?_
        refine w_aload_n (pc' := 168) dX1_kind_167 rfl rfl ?_
        refine w_mgi 5 (pc' := 171) dX1_kind_168 rfl fX1_128_1 rfl ?_
        refine w_iload_n (pc' := 172) dX1_kind_171 rfl rfl ?_
        refine w_auz (pc' := 173) dX1_kind_172 rfl rfl (by first | omega | (simp (decide := true) only [au_1, nu_2, au_lt, nu_lt, aw_e, nw_e, au_s, au_n, nu_s, nu_n, au_au, nu_nu, au_nu]; omega)) (by first | omega | (simp (decide := true) only [au_1, nu_2, au_lt, nu_lt, aw_e, nw_e, au_s, au_n, nu_s, nu_n, au_au, nu_nu, au_nu]; omega)) (by first | omega | (simp (decide := true) only [au_1, nu_2, au_lt, nu_lt, aw_e, nw_e, au_s, au_n, nu_s, nu_n, au_au, nu_nu, au_nu]; omega)) ?_
        try simp (decide := true) only [au_1, nu_2, au_lt, nu_lt, aw_e, nw_e, au_s, au_n, nu_s, nu_n, au_au, nu_nu, au_nu]
        refine w_aload_n (pc' := 174) dX1_kind_173 rfl rfl ?_
        refine w_mga 2 (pc' := 177) dX1_kind_174 rfl fX1_16_1 rfl ?_
        refine w_aload_n (pc' := 178) dX1_kind_177 rfl rfl ?_
        refine w_mgi 5 (pc' := 181) dX1_kind_178 rfl fX1_128_1 rfl ?_
        refine w_iload (pc' := 183) dX1_kind_181 rfl rfl ?_
        refine w_aui (pc' := 184) dX1_kind_183 rfl rfl (by first | omega | (simp (decide := true) only [au_1, nu_2, au_lt, nu_lt, aw_e, nw_e, au_s, au_n, nu_s, nu_n, au_au, nu_nu, au_nu]; omega)) (by first | omega | (simp (decide := true) only [au_1, nu_2, au_lt, nu_lt, aw_e, nw_e, au_s, au_n, nu_s, nu_n, au_au, nu_nu, au_nu]; omega)) ?_
        try simp (decide := true) only [au_1, nu_2, au_lt, nu_lt, aw_e, nw_e, au_s, au_n, nu_s, nu_n, au_au, nu_nu, au_nu]
        refine w_aload_n (pc' := 185) dX1_kind_184 rfl rfl ?_
        refine w_mga 4 (pc' := 188) dX1_kind_185 rfl fX1_23_1 rfl ?_
        refine w_aload_n (pc' := 189) dX1_kind_188 rfl rfl ?_
        refine w_mgi 5 (pc' := 192) dX1_kind_189 rfl fX1_128_1 rfl ?_
        refine w_lload (pc' := 194) dX1_kind_192 rfl rfl ?_
        refine w_aul (pc' := 195) dX1_kind_194 rfl rfl (by first | omega | (simp (decide := true) only [au_1, nu_2, au_lt, nu_lt, aw_e, nw_e, au_s, au_n, nu_s, nu_n, au_au, nu_nu, au_nu]; omega)) (by first | omega | (simp (decide := true) only [au_1, nu_2, au_lt, nu_lt, aw_e, nw_e, au_s, au_n, nu_s, nu_n, au_au, nu_nu, au_nu]; omega)) ?_
        try simp (decide := true) only [au_1, nu_2, au_lt, nu_lt, aw_e, nw_e, au_s, au_n, nu_s, nu_n, au_au, nu_nu, au_nu]
        refine w_aload_n (pc' := 196) dX1_kind_195 rfl rfl ?_
        refine w_dup (pc' := 197) dX1_kind_196 rfl rfl ?_
        refine w_mgi 5 (pc' := 200) dX1_kind_197 rfl fX1_128_1 rfl ?_
        refine w_iconst (pc' := 201) dX1_kind_200 rfl (by decide) ?_
        refine w_iadd (pc' := 202) dX1_kind_201 rfl ⟨by first | omega | (simp (decide := true) only [au_1, nu_2, au_lt, nu_lt, aw_e, nw_e, au_s, au_n, nu_s, nu_n, au_au, nu_nu, au_nu]; omega), by first | omega | (simp (decide := true) only [au_1, nu_2, au_lt, nu_lt, aw_e, nw_e, au_s, au_n, nu_s, nu_n, au_au, nu_nu, au_nu]; omega)⟩ ?_
        refine w_nup 5 (pc' := 205) dX1_kind_202 rfl pX1_128_1 rfl trivial ?_
        try simp (decide := true) only [au_1, nu_2, au_lt, nu_lt, aw_e, nw_e, au_s, au_n, nu_s, nu_n, au_au, nu_nu, au_nu]
        refine w_aload_n (pc' := 206) dX1_kind_205 rfl rfl ?_
        refine w_mgi 5 (pc' := 209) dX1_kind_206 rfl fX1_128_1 rfl ?_
        refine w_iconst (pc' := 210) dX1_kind_209 rfl (by decide) ?_
        refine w_isub (pc' := 211) dX1_kind_210 rfl ⟨by first | omega | (simp (decide := true) only [au_1, nu_2, au_lt, nu_lt, aw_e, nw_e, au_s, au_n, nu_s, nu_n, au_au, nu_nu, au_nu]; omega), by first | omega | (simp (decide := true) only [au_1, nu_2, au_lt, nu_lt, aw_e, nw_e, au_s, au_n, nu_s, nu_n, au_au, nu_nu, au_nu]; omega)⟩ ?_
        -- at 211: .ireturn
        try simp (decide := true) only [au_1, nu_2, au_lt, nu_lt, aw_e, nw_e, au_s, au_n, nu_s, nu_n, au_au, nu_nu, au_nu]
        try simp (decide := true) only [au_1, nu_2, au_lt, nu_lt, aw_e, nw_e, au_s, au_n, nu_s, nu_n, au_au, nu_nu, au_nu]
        refine w_ireturn dX1_kind_211 rfl ?_
        rw [show σ.1 5 + 1 - 1 = σ.1 5 by omega]
        exact h1 ⟨hc, g⟩
      · exact no _ (fun q => by omega)
    · refine w_if_eq (pc' := 132) (tgt := 141) dX1_kind_129 rfl rfl (fun h_ => ?_) (fun h_ => False.elim (by first | omega | (simp (decide := true) only [au_1, nu_2, au_lt, nu_lt, aw_e, nw_e, au_s, au_n, nu_s, nu_n, au_au, nu_nu, au_nu] at h_; omega)))
      exact no _ (fun q => hc q.1)
  have two : ∀ can : Int, (can = 1 ∧ (σ.1 5 < 40 ∧ (0 ≤ e ∧ e ≤ 65535) ∧ (t = 1 ∨ t = 2 ∨ t = 4) ∧ (0 ≤ c ∧ c ≤ 1000) ∧ plain a ≠ 0 ∧ (t = 1 → e = e % 16 * 4369)) ∨ can = 0 ∧ ¬ (σ.1 5 < 40 ∧ (0 ≤ e ∧ e ≤ 65535) ∧ (t = 1 ∨ t = 2 ∨ t = 4) ∧ (0 ≤ c ∧ c ≤ 1000) ∧ plain a ≠ 0 ∧ (t = 1 → e = e % 16 * 4369))) → tvW mX1_kind (d + 2) K 98 [some (xR mR), some (xI e), some (xI t), some (xI m), some (xI c), some (xL a), none, some (xL (plain a)), none, some (xI (bAnd e 15)), some (xI can)] [] (ov σ G0) bc bs := by
    intro can hc
    unfold kcan at fin
    have e8 := bAnd_255 e
    have e9 := bShr_8 he
    refine w_iload_n (pc' := 99) dX1_kind_98 rfl rfl ?_
    refine w_iconst (pc' := 100) dX1_kind_99 rfl (by decide) ?_
    -- at 100: .if_icmp .ne 27
    try simp (decide := true) only [au_1, nu_2, au_lt, nu_lt, aw_e, nw_e, au_s, au_n, nu_s, nu_n, au_au, nu_nu, au_nu]
    refine w_icmp_ne (pc' := 103) (tgt := 127) dX1_kind_100 rfl rfl (fun g => ?_) (fun g => ?_)
    · exact fin _ (by omega)
    · refine w_iload (pc' := 105) dX1_kind_103 rfl rfl ?_
      -- at 105: .ifCond .eq 19
      try simp (decide := true) only [au_1, nu_2, au_lt, nu_lt, aw_e, nw_e, au_s, au_n, nu_s, nu_n, au_au, nu_nu, au_nu]
      refine w_if_eq (pc' := 108) (tgt := 124) dX1_kind_105 rfl rfl (fun g2 => ?_) (fun g2 => ?_)
      · refine w_iconst (pc' := 125) dX1_kind_124 rfl (by decide) ?_
        refine w_ist10 (pc' := 127) dX1_kind_125 rfl rfl ?_
        -- at 127: .iload 10
        try simp (decide := true) only [au_1, nu_2, au_lt, nu_lt, aw_e, nw_e, au_s, au_n, nu_s, nu_n, au_au, nu_nu, au_nu]
        exact fin _ (by omega)
      · refine w_iload_n (pc' := 109) dX1_kind_108 rfl rfl ?_
        refine w_sipush (pc' := 112) dX1_kind_109 rfl (by decide +kernel) (by decide) ?_
        refine w_iand (pc' := 113) dX1_kind_112 rfl ?_
        refine w_iload_n (pc' := 114) dX1_kind_113 rfl rfl ?_
        refine w_bipush (pc' := 116) dX1_kind_114 rfl (by decide +kernel) (by decide) ?_
        refine w_ishr (pc' := 117) dX1_kind_116 rfl ?_
        -- at 117: .if_icmp .ne 7
        try simp (decide := true) only [au_1, nu_2, au_lt, nu_lt, aw_e, nw_e, au_s, au_n, nu_s, nu_n, au_au, nu_nu, au_nu]
        refine w_icmp_ne (pc' := 120) (tgt := 124) dX1_kind_117 rfl rfl (fun g3 => ?_) (fun g3 => ?_)
        · refine w_iconst (pc' := 125) dX1_kind_124 rfl (by decide) ?_
          refine w_ist10 (pc' := 127) dX1_kind_125 rfl rfl ?_
          -- at 127: .iload 10
          try simp (decide := true) only [au_1, nu_2, au_lt, nu_lt, aw_e, nw_e, au_s, au_n, nu_s, nu_n, au_au, nu_nu, au_nu]
          exact fin _ (by omega)
        · refine w_iconst (pc' := 121) dX1_kind_120 rfl (by decide) ?_
          refine w_goto (tgt := 125) dX1_kind_121 rfl ?_
          refine w_ist10 (pc' := 127) dX1_kind_125 rfl rfl ?_
          -- at 127: .iload 10
          try simp (decide := true) only [au_1, nu_2, au_lt, nu_lt, aw_e, nw_e, au_s, au_n, nu_s, nu_n, au_au, nu_nu, au_nu]
          exact fin _ (by omega)
  have one : ∀ can : Int, (can = 1 ∧ (σ.1 5 < 40 ∧ (0 ≤ e ∧ e ≤ 65535) ∧ (t = 1 ∨ t = 2 ∨ t = 4) ∧ (0 ≤ c ∧ c ≤ 1000) ∧ plain a ≠ 0) ∨ can = 0 ∧ ¬ (σ.1 5 < 40 ∧ (0 ≤ e ∧ e ≤ 65535) ∧ (t = 1 ∨ t = 2 ∨ t = 4) ∧ (0 ≤ c ∧ c ≤ 1000) ∧ plain a ≠ 0)) → tvW mX1_kind (d + 2) K 69 [some (xR mR), some (xI e), some (xI t), some (xI m), some (xI c), some (xL a), none, some (xL (plain a)), none, some (xI (bAnd e 15)), none] [xI can] (ov σ G0) bc bs := by
    intro can hc
    refine w_ist10 (pc' := 71) dX1_kind_69 rfl rfl ?_
    refine w_iload_n (pc' := 72) dX1_kind_71 rfl rfl ?_
    refine w_iconst (pc' := 73) dX1_kind_72 rfl (by decide) ?_
    -- at 73: .if_icmp .ne 25
    try simp (decide := true) only [au_1, nu_2, au_lt, nu_lt, aw_e, nw_e, au_s, au_n, nu_s, nu_n, au_au, nu_nu, au_nu]
    refine w_icmp_ne (pc' := 76) (tgt := 98) dX1_kind_73 rfl rfl (fun g => ?_) (fun g => ?_)
    · exact two _ (by omega)
    · refine w_iload (pc' := 78) dX1_kind_76 rfl rfl ?_
      -- at 78: .ifCond .eq 17
      try simp (decide := true) only [au_1, nu_2, au_lt, nu_lt, aw_e, nw_e, au_s, au_n, nu_s, nu_n, au_au, nu_nu, au_nu]
      refine w_if_eq (pc' := 81) (tgt := 95) dX1_kind_78 rfl rfl (fun g2 => ?_) (fun g2 => ?_)
      · refine w_iconst (pc' := 96) dX1_kind_95 rfl (by decide) ?_
        refine w_ist10 (pc' := 98) dX1_kind_96 rfl rfl ?_
        -- at 98: .iload_n 2
        try simp (decide := true) only [au_1, nu_2, au_lt, nu_lt, aw_e, nw_e, au_s, au_n, nu_s, nu_n, au_au, nu_nu, au_nu]
        exact two _ (by omega)
      · refine w_iload_n (pc' := 82) dX1_kind_81 rfl rfl ?_
        refine w_iload (pc' := 84) dX1_kind_82 rfl rfl ?_
        refine w_sipush (pc' := 87) dX1_kind_84 rfl (by decide +kernel) (by decide) ?_
        refine w_imul (pc' := 88) dX1_kind_87 rfl ⟨by first | omega | (simp (decide := true) only [au_1, nu_2, au_lt, nu_lt, aw_e, nw_e, au_s, au_n, nu_s, nu_n, au_au, nu_nu, au_nu]; omega), by first | omega | (simp (decide := true) only [au_1, nu_2, au_lt, nu_lt, aw_e, nw_e, au_s, au_n, nu_s, nu_n, au_au, nu_nu, au_nu]; omega)⟩ ?_
        -- at 88: .if_icmp .ne 7
        try simp (decide := true) only [au_1, nu_2, au_lt, nu_lt, aw_e, nw_e, au_s, au_n, nu_s, nu_n, au_au, nu_nu, au_nu]
        refine w_icmp_ne (pc' := 91) (tgt := 95) dX1_kind_88 rfl rfl (fun g3 => ?_) (fun g3 => ?_)
        · refine w_iconst (pc' := 96) dX1_kind_95 rfl (by decide) ?_
          refine w_ist10 (pc' := 98) dX1_kind_96 rfl rfl ?_
          -- at 98: .iload_n 2
          try simp (decide := true) only [au_1, nu_2, au_lt, nu_lt, aw_e, nw_e, au_s, au_n, nu_s, nu_n, au_au, nu_nu, au_nu]
          exact two _ (by omega)
        · refine w_iconst (pc' := 92) dX1_kind_91 rfl (by decide) ?_
          refine w_goto (tgt := 96) dX1_kind_92 rfl ?_
          refine w_ist10 (pc' := 98) dX1_kind_96 rfl rfl ?_
          -- at 98: .iload_n 2
          try simp (decide := true) only [au_1, nu_2, au_lt, nu_lt, aw_e, nw_e, au_s, au_n, nu_s, nu_n, au_au, nu_nu, au_nu]
          exact two _ (by omega)
  have bad : ¬ (σ.1 5 < 40 ∧ (0 ≤ e ∧ e ≤ 65535) ∧ (t = 1 ∨ t = 2 ∨ t = 4) ∧ (0 ≤ c ∧ c ≤ 1000) ∧ plain a ≠ 0) → tvW mX1_kind (d + 2) K 68 [some (xR mR), some (xI e), some (xI t), some (xI m), some (xI c), some (xL a), none, some (xL (plain a)), none, some (xI (bAnd e 15)), none] [] (ov σ G0) bc bs := by
    intro q
    refine w_iconst (pc' := 69) dX1_kind_68 rfl (by decide) ?_
    -- at 69: .istore 10
    try simp (decide := true) only [au_1, nu_2, au_lt, nu_lt, aw_e, nw_e, au_s, au_n, nu_s, nu_n, au_au, nu_nu, au_nu]
    exact one 0 (Or.inr ⟨rfl, q⟩)
  have bh := bAnd_hi he
  refine w_lload (pc' := 2) dX1_kind_0 rfl rfl ?_
  -- at 2: .invokestatic 124
  try simp (decide := true) only [au_1, nu_2, au_lt, nu_lt, aw_e, nw_e, au_s, au_n, nu_s, nu_n, au_au, nu_nu, au_nu]
  refine w_callS1 (pc' := 5) (mc := 0) (ms := 0) dX1_kind_2 rfl tX1_plain q1243 q1242 rfl (Nat.le_of_ble_eq_true rfl) (Nat.le_of_ble_eq_true rfl) ?_
  refine c_X1_plain hr ?_
  refine w_p1 ?_
  refine w_lst7 (pc' := 7) dX1_kind_5 rfl rfl ?_
  refine w_iload_n (pc' := 8) dX1_kind_7 rfl rfl ?_
  refine w_bipush (pc' := 10) dX1_kind_8 rfl (by decide +kernel) (by decide) ?_
  refine w_iand (pc' := 11) dX1_kind_10 rfl ?_
  refine w_ist9 (pc' := 13) dX1_kind_11 rfl rfl ?_
  refine w_aload_n (pc' := 14) dX1_kind_13 rfl rfl ?_
  refine w_mgi 5 (pc' := 17) dX1_kind_14 rfl fX1_128_1 rfl ?_
  refine w_bipush (pc' := 19) dX1_kind_17 rfl (by decide +kernel) (by decide) ?_
  refine w_icmp_ge (pc' := 22) (tgt := 68) dX1_kind_19 rfl rfl (fun g19 => by exact bad (by omega)) (fun g19 => ?_)
  refine w_iload_n (pc' := 23) dX1_kind_22 rfl rfl ?_
  refine w_ldc (z := -65536) (pc' := 25) dX1_kind_23 rfl q1248 (by decide +kernel) (by decide) ?_
  refine w_iand (pc' := 26) dX1_kind_25 rfl ?_
  refine w_if_ne (pc' := 29) (tgt := 68) dX1_kind_26 rfl rfl (fun g26 => by exact bad (by omega)) (fun g26 => ?_)
  -- at 29: .iload_n 2
  have tl : (t = 1 ∨ t = 2 ∨ t = 4) → tvW mX1_kind (d + 2) K 44 [some (xR mR), some (xI e), some (xI t), some (xI m), some (xI c), some (xL a), none, some (xL (plain a)), none, some (xI (bAnd e 15)), none] [] (ov σ G0) bc bs := by
    intro ht
    refine w_iload (pc' := 46) dX1_kind_44 rfl rfl ?_
    refine w_if_lt (pc' := 49) (tgt := 68) dX1_kind_46 rfl rfl (fun g46 => by first | exact bad (by omega) | exact bad (fun q => q.2.2.2.2 (lCmp_eq.mp g61))) (fun g46 => ?_)
    refine w_iload (pc' := 51) dX1_kind_49 rfl rfl ?_
    refine w_sipush (pc' := 54) dX1_kind_51 rfl (by decide +kernel) (by decide) ?_
    refine w_icmp_gt (pc' := 57) (tgt := 68) dX1_kind_54 rfl rfl (fun g54 => by first | exact bad (by omega) | exact bad (fun q => q.2.2.2.2 (lCmp_eq.mp g61))) (fun g54 => ?_)
    refine w_lload (pc' := 59) dX1_kind_57 rfl rfl ?_
    refine w_lconst (z := 0) (pc' := 60) dX1_kind_59 rfl rfl (by decide) ?_
    refine w_lcmp (pc' := 61) dX1_kind_60 rfl ?_
    refine w_if_eq (pc' := 64) (tgt := 68) dX1_kind_61 rfl rfl (fun g61 => by first | exact bad (by omega) | exact bad (fun q => q.2.2.2.2 (lCmp_eq.mp g61))) (fun g61 => ?_)
    -- at 64: .iconst 1
    refine w_iconst (pc' := 65) dX1_kind_64 rfl (by decide) ?_
    refine w_goto (tgt := 69) dX1_kind_65 rfl ?_
    -- at 69: .istore 10
    try simp (decide := true) only [au_1, nu_2, au_lt, nu_lt, aw_e, nw_e, au_s, au_n, nu_s, nu_n, au_au, nu_nu, au_nu]
    exact one 1 (Or.inl ⟨rfl, by omega, by omega, ht, by omega, fun q => g61 (lCmp_eq.mpr q)⟩)
  refine w_iload_n (pc' := 30) dX1_kind_29 rfl rfl ?_
  refine w_iconst (pc' := 31) dX1_kind_30 rfl (by decide) ?_
  -- at 31: .if_icmp .eq 13
  try simp (decide := true) only [au_1, nu_2, au_lt, nu_lt, aw_e, nw_e, au_s, au_n, nu_s, nu_n, au_au, nu_nu, au_nu]
  refine w_icmp_eq (pc' := 34) (tgt := 44) dX1_kind_31 rfl rfl (fun t1 => ?_) (fun t1 => ?_)
  · exact tl (by omega)
  · refine w_iload_n (pc' := 35) dX1_kind_34 rfl rfl ?_
    refine w_iconst (pc' := 36) dX1_kind_35 rfl (by decide) ?_
    -- at 36: .if_icmp .eq 8
    try simp (decide := true) only [au_1, nu_2, au_lt, nu_lt, aw_e, nw_e, au_s, au_n, nu_s, nu_n, au_au, nu_nu, au_nu]
    refine w_icmp_eq (pc' := 39) (tgt := 44) dX1_kind_36 rfl rfl (fun t2 => ?_) (fun t2 => ?_)
    · exact tl (by omega)
    · refine w_iload_n (pc' := 40) dX1_kind_39 rfl rfl ?_
      refine w_iconst (pc' := 41) dX1_kind_40 rfl (by decide) ?_
      -- at 41: .if_icmp .ne 27
      try simp (decide := true) only [au_1, nu_2, au_lt, nu_lt, aw_e, nw_e, au_s, au_n, nu_s, nu_n, au_au, nu_nu, au_nu]
      refine w_icmp_ne (pc' := 44) (tgt := 68) dX1_kind_41 rfl rfl (fun t4 => ?_) (fun t4 => ?_)
      · exact bad (by omega)
      · exact tl (by omega)
end
