set_option maxRecDepth 10000
section
variable {d : Nat} {K : Option XV → GH → Prop} {G0 G : GH} {bc bs : Nat} {σ : MS} {M : tv_M} {pc : Nat} {L : List (Option XV)} {st : List XV}
theorem c_X1_newRow {len off : Int} (hm : 0 ≤ σ.1 9 ∧ σ.1 9 < 6000) (hl : 0 ≤ len ∧ len ≤ 60) (h : K (some (xI (σ.1 9))) (ov (sNew σ len off) G0)) : tvW mX1_newRow d K 0 [some (xR mR), some (xI len), some (xI off), none] [] (ov σ G0) bc bs := by
  refine w_aload_n (pc' := 1) dX1_newRow_0 rfl rfl ?_
  refine w_mga 6 (pc' := 4) dX1_newRow_1 rfl fX1_27_1 rfl ?_
  refine w_aload_n (pc' := 5) dX1_newRow_4 rfl rfl ?_
  refine w_mgi 9 (pc' := 8) dX1_newRow_5 rfl fX1_172_1 rfl ?_
  refine w_iload_n (pc' := 9) dX1_newRow_8 rfl rfl ?_
  refine w_aui (pc' := 10) dX1_newRow_9 rfl rfl (by first | omega | (simp (decide := true) only [au_1, nu_2, au_lt, nu_lt, aw_e, nw_e, au_s, au_n, nu_s, nu_n, au_au, nu_nu, au_nu]; omega)) (by first | omega | (simp (decide := true) only [au_1, nu_2, au_lt, nu_lt, aw_e, nw_e, au_s, au_n, nu_s, nu_n, au_au, nu_nu, au_nu]; omega)) ?_
  try simp (decide := true) only [au_1, nu_2, au_lt, nu_lt, aw_e, nw_e, au_s, au_n, nu_s, nu_n, au_au, nu_nu, au_nu]
  refine w_aload_n (pc' := 11) dX1_newRow_10 rfl rfl ?_
  refine w_mga 7 (pc' := 14) dX1_newRow_11 rfl fX1_30_1 rfl ?_
  refine w_aload_n (pc' := 15) dX1_newRow_14 rfl rfl ?_
  refine w_mgi 9 (pc' := 18) dX1_newRow_15 rfl fX1_172_1 rfl ?_
  refine w_iload_n (pc' := 19) dX1_newRow_18 rfl rfl ?_
  refine w_aui (pc' := 20) dX1_newRow_19 rfl rfl (by first | omega | (simp (decide := true) only [au_1, nu_2, au_lt, nu_lt, aw_e, nw_e, au_s, au_n, nu_s, nu_n, au_au, nu_nu, au_nu]; omega)) (by first | omega | (simp (decide := true) only [au_1, nu_2, au_lt, nu_lt, aw_e, nw_e, au_s, au_n, nu_s, nu_n, au_au, nu_nu, au_nu]; omega)) ?_
  try simp (decide := true) only [au_1, nu_2, au_lt, nu_lt, aw_e, nw_e, au_s, au_n, nu_s, nu_n, au_au, nu_nu, au_nu]
  refine w_iconst (pc' := 21) dX1_newRow_20 rfl (by decide) ?_
  refine w_ist3 (pc' := 22) dX1_newRow_21 rfl rfl ?_
  -- at 22: .iload_n 3
  try simp (decide := true) only [au_1, nu_2, au_lt, nu_lt, aw_e, nw_e, au_s, au_n, nu_s, nu_n, au_au, nu_nu, au_nu]
  refine w_ms (τ := au (au (au σ 6 (iset (σ.2 6) (σ.1 9) len)) 7 (iset (σ.2 7) (σ.1 9) off)) 8 (rfill (σ.2 8) (60 * σ.1 9) 0 (fun _ => 0))) ?_ ?_
  · rw [rfill_0]; exact au_id.symm
  refine up (T := fun i => tvW mX1_newRow d K 22 [some (xR mR), some (xI len), some (xI off), some (xI i)] [] (ov (au (au (au σ 6 (iset (σ.2 6) (σ.1 9) len)) 7 (iset (σ.2 7) (σ.1 9) off)) 8 (rfill (σ.2 8) (60 * σ.1 9) i (fun _ => 0))) G0) bc bs) len hl.1 ?_ (fun i h0 h1 ih => ?_)
  · refine w_iload_n (pc' := 23) dX1_newRow_22 rfl rfl ?_
    refine w_iload_n (pc' := 24) dX1_newRow_23 rfl rfl ?_
    -- at 24: .if_icmp .ge 24
    try simp (decide := true) only [au_1, nu_2, au_lt, nu_lt, aw_e, nw_e, au_s, au_n, nu_s, nu_n, au_au, nu_nu, au_nu]
    refine w_icmp_ge (pc' := 27) (tgt := 48) dX1_newRow_24 rfl rfl (fun h_ => ?_) (fun h_ => False.elim (by first | omega | (simp (decide := true) only [au_1, nu_2, au_lt, nu_lt, aw_e, nw_e, au_s, au_n, nu_s, nu_n, au_au, nu_nu, au_nu] at h_; omega)))
    refine w_aload_n (pc' := 49) dX1_newRow_48 rfl rfl ?_
    refine w_dup (pc' := 50) dX1_newRow_49 rfl rfl ?_
    refine w_mgi 9 (pc' := 53) dX1_newRow_50 rfl fX1_172_1 rfl ?_
    refine w_iconst (pc' := 54) dX1_newRow_53 rfl (by decide) ?_
    refine w_iadd (pc' := 55) dX1_newRow_54 rfl ⟨by first | omega | (simp (decide := true) only [au_1, nu_2, au_lt, nu_lt, aw_e, nw_e, au_s, au_n, nu_s, nu_n, au_au, nu_nu, au_nu]; omega), by first | omega | (simp (decide := true) only [au_1, nu_2, au_lt, nu_lt, aw_e, nw_e, au_s, au_n, nu_s, nu_n, au_au, nu_nu, au_nu]; omega)⟩ ?_
    refine w_nup 9 (pc' := 58) dX1_newRow_55 rfl pX1_172_1 rfl trivial ?_
    try simp (decide := true) only [au_1, nu_2, au_lt, nu_lt, aw_e, nw_e, au_s, au_n, nu_s, nu_n, au_au, nu_nu, au_nu]
    refine w_aload_n (pc' := 59) dX1_newRow_58 rfl rfl ?_
    refine w_mgi 9 (pc' := 62) dX1_newRow_59 rfl fX1_172_1 rfl ?_
    refine w_iconst (pc' := 63) dX1_newRow_62 rfl (by decide) ?_
    refine w_isub (pc' := 64) dX1_newRow_63 rfl ⟨by first | omega | (simp (decide := true) only [au_1, nu_2, au_lt, nu_lt, aw_e, nw_e, au_s, au_n, nu_s, nu_n, au_au, nu_nu, au_nu]; omega), by first | omega | (simp (decide := true) only [au_1, nu_2, au_lt, nu_lt, aw_e, nw_e, au_s, au_n, nu_s, nu_n, au_au, nu_nu, au_nu]; omega)⟩ ?_
    -- at 64: .ireturn
    try simp (decide := true) only [au_1, nu_2, au_lt, nu_lt, aw_e, nw_e, au_s, au_n, nu_s, nu_n, au_au, nu_nu, au_nu]
    try simp (decide := true) only [au_1, nu_2, au_lt, nu_lt, aw_e, nw_e, au_s, au_n, nu_s, nu_n, au_au, nu_nu, au_nu]
    refine w_ireturn dX1_newRow_64 rfl ?_
    rw [show σ.1 9 + 1 - 1 = σ.1 9 by omega]
    exact h
  · refine w_iload_n (pc' := 23) dX1_newRow_22 rfl rfl ?_
    refine w_iload_n (pc' := 24) dX1_newRow_23 rfl rfl ?_
    -- at 24: .if_icmp .ge 24
    try simp (decide := true) only [au_1, nu_2, au_lt, nu_lt, aw_e, nw_e, au_s, au_n, nu_s, nu_n, au_au, nu_nu, au_nu]
    refine w_icmp_ge (pc' := 27) (tgt := 48) dX1_newRow_24 rfl rfl (fun h_ => False.elim (by first | omega | (simp (decide := true) only [au_1, nu_2, au_lt, nu_lt, aw_e, nw_e, au_s, au_n, nu_s, nu_n, au_au, nu_nu, au_nu] at h_; omega))) (fun h_ => ?_)
    refine w_aload_n (pc' := 28) dX1_newRow_27 rfl rfl ?_
    refine w_mga 8 (pc' := 31) dX1_newRow_28 rfl fX1_34_1 rfl ?_
    refine w_bipush (pc' := 33) dX1_newRow_31 rfl (by decide +kernel) (by decide) ?_
    refine w_aload_n (pc' := 34) dX1_newRow_33 rfl rfl ?_
    refine w_mgi 9 (pc' := 37) dX1_newRow_34 rfl fX1_172_1 rfl ?_
    refine w_imul (pc' := 38) dX1_newRow_37 rfl ⟨by first | omega | (simp (decide := true) only [au_1, nu_2, au_lt, nu_lt, aw_e, nw_e, au_s, au_n, nu_s, nu_n, au_au, nu_nu, au_nu]; omega), by first | omega | (simp (decide := true) only [au_1, nu_2, au_lt, nu_lt, aw_e, nw_e, au_s, au_n, nu_s, nu_n, au_au, nu_nu, au_nu]; omega)⟩ ?_
    refine w_iload_n (pc' := 39) dX1_newRow_38 rfl rfl ?_
    refine w_iadd (pc' := 40) dX1_newRow_39 rfl ⟨by first | omega | (simp (decide := true) only [au_1, nu_2, au_lt, nu_lt, aw_e, nw_e, au_s, au_n, nu_s, nu_n, au_au, nu_nu, au_nu]; omega), by first | omega | (simp (decide := true) only [au_1, nu_2, au_lt, nu_lt, aw_e, nw_e, au_s, au_n, nu_s, nu_n, au_au, nu_nu, au_nu]; omega)⟩ ?_
    refine w_iconst (pc' := 41) dX1_newRow_40 rfl (by decide) ?_
    refine w_aui (pc' := 42) dX1_newRow_41 rfl rfl (by first | omega | (simp (decide := true) only [au_1, nu_2, au_lt, nu_lt, aw_e, nw_e, au_s, au_n, nu_s, nu_n, au_au, nu_nu, au_nu]; omega)) (by first | omega | (simp (decide := true) only [au_1, nu_2, au_lt, nu_lt, aw_e, nw_e, au_s, au_n, nu_s, nu_n, au_au, nu_nu, au_nu]; omega)) ?_
    try simp (decide := true) only [au_1, nu_2, au_lt, nu_lt, aw_e, nw_e, au_s, au_n, nu_s, nu_n, au_au, nu_nu, au_nu]
    refine w_inc3 (pc' := 45) dX1_newRow_42 rfl rfl ⟨by first | omega | (simp (decide := true) only [au_1, nu_2, au_lt, nu_lt, aw_e, nw_e, au_s, au_n, nu_s, nu_n, au_au, nu_nu, au_nu]; omega), by first | omega | (simp (decide := true) only [au_1, nu_2, au_lt, nu_lt, aw_e, nw_e, au_s, au_n, nu_s, nu_n, au_au, nu_nu, au_nu]; omega)⟩ ?_
    refine w_goto (tgt := 22) dX1_newRow_45 rfl ?_
    -- at 22: .iload_n 3
    try simp (decide := true) only [au_1, nu_2, au_lt, nu_lt, aw_e, nw_e, au_s, au_n, nu_s, nu_n, au_au, nu_nu, au_nu]
    rw [rfill_s' h0 rfl rfl]
    exact ih
theorem c_X1_keep {p : Int} (hu : (0 ≤ σ.1 16 ∧ σ.1 16 ≤ 40) ∧ 0 ≤ σ.1 17 ∧ σ.1 17 < 40) (hp : 0 ≤ p ∧ p < 16) (hM : 0 ≤ σ.2 11 p ∧ σ.2 11 p ≤ 60) (h : K none (ov (sKeep σ p) G0)) : tvW mX1_keep (d + 1) K 0 [some (xR mR), some (xI p), none] [] (ov σ G0) bc bs := by
  refine w_aload_n (pc' := 1) dX1_keep_0 rfl rfl ?_
  refine w_mga 13 (pc' := 4) dX1_keep_1 rfl fX1_43_1 rfl ?_
  refine w_aload_n (pc' := 5) dX1_keep_4 rfl rfl ?_
  refine w_mgi 17 (pc' := 8) dX1_keep_5 rfl fX1_181_1 rfl ?_
  refine w_iload_n (pc' := 9) dX1_keep_8 rfl rfl ?_
  refine w_aui (pc' := 10) dX1_keep_9 rfl rfl (by first | omega | (simp (decide := true) only [au_1, nu_2, au_lt, nu_lt, aw_e, nw_e, au_s, au_n, nu_s, nu_n, au_au, nu_nu, au_nu]; omega)) (by first | omega | (simp (decide := true) only [au_1, nu_2, au_lt, nu_lt, aw_e, nw_e, au_s, au_n, nu_s, nu_n, au_au, nu_nu, au_nu]; omega)) ?_
  try simp (decide := true) only [au_1, nu_2, au_lt, nu_lt, aw_e, nw_e, au_s, au_n, nu_s, nu_n, au_au, nu_nu, au_nu]
  refine w_aload_n (pc' := 11) dX1_keep_10 rfl rfl ?_
  refine w_mga 14 (pc' := 14) dX1_keep_11 rfl fX1_46_1 rfl ?_
  refine w_aload_n (pc' := 15) dX1_keep_14 rfl rfl ?_
  refine w_mgi 17 (pc' := 18) dX1_keep_15 rfl fX1_181_1 rfl ?_
  refine w_aload_n (pc' := 19) dX1_keep_18 rfl rfl ?_
  refine w_mga 11 (pc' := 22) dX1_keep_19 rfl fX1_40_1 rfl ?_
  refine w_iload_n (pc' := 23) dX1_keep_22 rfl rfl ?_
  refine w_mild (pc' := 24) dX1_keep_23 rfl rfl (by first | omega | (simp (decide := true) only [au_1, nu_2, au_lt, nu_lt, aw_e, nw_e, au_s, au_n, nu_s, nu_n, au_au, nu_nu, au_nu]; omega)) (by first | omega | (simp (decide := true) only [au_1, nu_2, au_lt, nu_lt, aw_e, nw_e, au_s, au_n, nu_s, nu_n, au_au, nu_nu, au_nu]; omega)) ?_
  refine w_aui (pc' := 25) dX1_keep_24 rfl rfl (by first | omega | (simp (decide := true) only [au_1, nu_2, au_lt, nu_lt, aw_e, nw_e, au_s, au_n, nu_s, nu_n, au_au, nu_nu, au_nu]; omega)) (by first | omega | (simp (decide := true) only [au_1, nu_2, au_lt, nu_lt, aw_e, nw_e, au_s, au_n, nu_s, nu_n, au_au, nu_nu, au_nu]; omega)) ?_
  try simp (decide := true) only [au_1, nu_2, au_lt, nu_lt, aw_e, nw_e, au_s, au_n, nu_s, nu_n, au_au, nu_nu, au_nu]
  refine w_iconst (pc' := 26) dX1_keep_25 rfl (by decide) ?_
  refine w_ist2 (pc' := 27) dX1_keep_26 rfl rfl ?_
  -- at 27: .iload_n 2
  try simp (decide := true) only [au_1, nu_2, au_lt, nu_lt, aw_e, nw_e, au_s, au_n, nu_s, nu_n, au_au, nu_nu, au_nu]
  refine w_ms (τ := au (au (au σ 13 (iset (σ.2 13) (σ.1 17) p)) 14 (iset (σ.2 14) (σ.1 17) (σ.2 11 p))) 15 (rfill (σ.2 15) (60 * σ.1 17) 0 (fun q => σ.2 10 (q - 60 * σ.1 17 + 60 * p)))) ?_ ?_
  · rw [rfill_0]; exact au_id.symm
  refine up (T := fun i => tvW mX1_keep (d + 1) K 27 [some (xR mR), some (xI p), some (xI i)] [] (ov (au (au (au σ 13 (iset (σ.2 13) (σ.1 17) p)) 14 (iset (σ.2 14) (σ.1 17) (σ.2 11 p))) 15 (rfill (σ.2 15) (60 * σ.1 17) i (fun q => σ.2 10 (q - 60 * σ.1 17 + 60 * p)))) G0) bc bs) (σ.2 11 p) hM.1 ?_ (fun i h0 h1 ih => ?_)
  · refine w_iload_n (pc' := 28) dX1_keep_27 rfl rfl ?_
    refine w_aload_n (pc' := 29) dX1_keep_28 rfl rfl ?_
    refine w_mga 11 (pc' := 32) dX1_keep_29 rfl fX1_40_1 rfl ?_
    refine w_iload_n (pc' := 33) dX1_keep_32 rfl rfl ?_
    refine w_mild (pc' := 34) dX1_keep_33 rfl rfl (by first | omega | (simp (decide := true) only [au_1, nu_2, au_lt, nu_lt, aw_e, nw_e, au_s, au_n, nu_s, nu_n, au_au, nu_nu, au_nu]; omega)) (by first | omega | (simp (decide := true) only [au_1, nu_2, au_lt, nu_lt, aw_e, nw_e, au_s, au_n, nu_s, nu_n, au_au, nu_nu, au_nu]; omega)) ?_
    -- at 34: .if_icmp .ge 29
    try simp (decide := true) only [au_1, nu_2, au_lt, nu_lt, aw_e, nw_e, au_s, au_n, nu_s, nu_n, au_au, nu_nu, au_nu]
    refine w_icmp_ge (pc' := 37) (tgt := 63) dX1_keep_34 rfl rfl (fun h_ => ?_) (fun h_ => False.elim (by first | omega | (simp (decide := true) only [au_1, nu_2, au_lt, nu_lt, aw_e, nw_e, au_s, au_n, nu_s, nu_n, au_au, nu_nu, au_nu] at h_; omega)))
    refine w_aload_n (pc' := 64) dX1_keep_63 rfl rfl ?_
    refine w_aload_n (pc' := 65) dX1_keep_64 rfl rfl ?_
    refine w_mgi 17 (pc' := 68) dX1_keep_65 rfl fX1_181_1 rfl ?_
    refine w_iconst (pc' := 69) dX1_keep_68 rfl (by decide) ?_
    refine w_iadd (pc' := 70) dX1_keep_69 rfl ⟨by first | omega | (simp (decide := true) only [au_1, nu_2, au_lt, nu_lt, aw_e, nw_e, au_s, au_n, nu_s, nu_n, au_au, nu_nu, au_nu]; omega), by first | omega | (simp (decide := true) only [au_1, nu_2, au_lt, nu_lt, aw_e, nw_e, au_s, au_n, nu_s, nu_n, au_au, nu_nu, au_nu]; omega)⟩ ?_
    refine w_bipush (pc' := 72) dX1_keep_70 rfl (by decide +kernel) (by decide) ?_
    refine w_irem (pc' := 73) dX1_keep_72 rfl (by first | omega | (simp (decide := true) only [au_1, nu_2, au_lt, nu_lt, aw_e, nw_e, au_s, au_n, nu_s, nu_n, au_au, nu_nu, au_nu]; omega)) (by first | omega | (simp (decide := true) only [au_1, nu_2, au_lt, nu_lt, aw_e, nw_e, au_s, au_n, nu_s, nu_n, au_au, nu_nu, au_nu]; omega)) ?_
    refine w_nup 17 (pc' := 76) dX1_keep_73 rfl pX1_181_1 rfl trivial ?_
    try simp (decide := true) only [au_1, nu_2, au_lt, nu_lt, aw_e, nw_e, au_s, au_n, nu_s, nu_n, au_au, nu_nu, au_nu]
    refine w_aload_n (pc' := 77) dX1_keep_76 rfl rfl ?_
    refine w_aload_n (pc' := 78) dX1_keep_77 rfl rfl ?_
    refine w_mgi 16 (pc' := 81) dX1_keep_78 rfl fX1_184_1 rfl ?_
    refine w_bipush (pc' := 83) dX1_keep_81 rfl (by decide +kernel) (by decide) ?_
    -- at 83: .if_icmp .ge 12
    try simp (decide := true) only [au_1, nu_2, au_lt, nu_lt, aw_e, nw_e, au_s, au_n, nu_s, nu_n, au_au, nu_nu, au_nu]
    try simp (decide := true) only [au_1, nu_2, au_lt, nu_lt, aw_e, nw_e, au_s, au_n, nu_s, nu_n, au_au, nu_nu, au_nu]
    refine w_icmp_ge (pc' := 86) (tgt := 95) dX1_keep_83 rfl rfl (fun g => ?_) (fun g => ?_)
    · refine w_bipush (pc' := 97) dX1_keep_95 rfl (by decide +kernel) (by decide) ?_
      refine w_nup 16 (pc' := 100) dX1_keep_97 rfl pX1_184_1 rfl trivial ?_
      try simp (decide := true) only [au_1, nu_2, au_lt, nu_lt, aw_e, nw_e, au_s, au_n, nu_s, nu_n, au_au, nu_nu, au_nu]
      -- at 100: .return_
      try simp (decide := true) only [au_1, nu_2, au_lt, nu_lt, aw_e, nw_e, au_s, au_n, nu_s, nu_n, au_au, nu_nu, au_nu]
      refine w_return dX1_keep_100 rfl ?_
      unfold sKeep at h
      rw [if_neg (by omega)] at h
      exact h
    · refine w_aload_n (pc' := 87) dX1_keep_86 rfl rfl ?_
      refine w_mgi 16 (pc' := 90) dX1_keep_87 rfl fX1_184_1 rfl ?_
      refine w_iconst (pc' := 91) dX1_keep_90 rfl (by decide) ?_
      refine w_iadd (pc' := 92) dX1_keep_91 rfl ⟨by first | omega | (simp (decide := true) only [au_1, nu_2, au_lt, nu_lt, aw_e, nw_e, au_s, au_n, nu_s, nu_n, au_au, nu_nu, au_nu]; omega), by first | omega | (simp (decide := true) only [au_1, nu_2, au_lt, nu_lt, aw_e, nw_e, au_s, au_n, nu_s, nu_n, au_au, nu_nu, au_nu]; omega)⟩ ?_
      refine w_goto (tgt := 97) dX1_keep_92 rfl ?_
      refine w_nup 16 (pc' := 100) dX1_keep_97 rfl pX1_184_1 rfl trivial ?_
      try simp (decide := true) only [au_1, nu_2, au_lt, nu_lt, aw_e, nw_e, au_s, au_n, nu_s, nu_n, au_au, nu_nu, au_nu]
      -- at 100: .return_
      try simp (decide := true) only [au_1, nu_2, au_lt, nu_lt, aw_e, nw_e, au_s, au_n, nu_s, nu_n, au_au, nu_nu, au_nu]
      try simp (decide := true) only [au_1, nu_2, au_lt, nu_lt, aw_e, nw_e, au_s, au_n, nu_s, nu_n, au_au, nu_nu, au_nu]
      refine w_return dX1_keep_100 rfl ?_
      unfold sKeep at h
      rw [if_pos (by omega)] at h
      exact h
  · refine w_iload_n (pc' := 28) dX1_keep_27 rfl rfl ?_
    refine w_aload_n (pc' := 29) dX1_keep_28 rfl rfl ?_
    refine w_mga 11 (pc' := 32) dX1_keep_29 rfl fX1_40_1 rfl ?_
    refine w_iload_n (pc' := 33) dX1_keep_32 rfl rfl ?_
    refine w_mild (pc' := 34) dX1_keep_33 rfl rfl (by first | omega | (simp (decide := true) only [au_1, nu_2, au_lt, nu_lt, aw_e, nw_e, au_s, au_n, nu_s, nu_n, au_au, nu_nu, au_nu]; omega)) (by first | omega | (simp (decide := true) only [au_1, nu_2, au_lt, nu_lt, aw_e, nw_e, au_s, au_n, nu_s, nu_n, au_au, nu_nu, au_nu]; omega)) ?_
    -- at 34: .if_icmp .ge 29
    try simp (decide := true) only [au_1, nu_2, au_lt, nu_lt, aw_e, nw_e, au_s, au_n, nu_s, nu_n, au_au, nu_nu, au_nu]
    refine w_icmp_ge (pc' := 37) (tgt := 63) dX1_keep_34 rfl rfl (fun h_ => False.elim (by first | omega | (simp (decide := true) only [au_1, nu_2, au_lt, nu_lt, aw_e, nw_e, au_s, au_n, nu_s, nu_n, au_au, nu_nu, au_nu] at h_; omega))) (fun h_ => ?_)
    refine w_aload_n (pc' := 38) dX1_keep_37 rfl rfl ?_
    refine w_mga 15 (pc' := 41) dX1_keep_38 rfl fX1_49_1 rfl ?_
    refine w_bipush (pc' := 43) dX1_keep_41 rfl (by decide +kernel) (by decide) ?_
    refine w_aload_n (pc' := 44) dX1_keep_43 rfl rfl ?_
    refine w_mgi 17 (pc' := 47) dX1_keep_44 rfl fX1_181_1 rfl ?_
    refine w_imul (pc' := 48) dX1_keep_47 rfl ⟨by first | omega | (simp (decide := true) only [au_1, nu_2, au_lt, nu_lt, aw_e, nw_e, au_s, au_n, nu_s, nu_n, au_au, nu_nu, au_nu]; omega), by first | omega | (simp (decide := true) only [au_1, nu_2, au_lt, nu_lt, aw_e, nw_e, au_s, au_n, nu_s, nu_n, au_au, nu_nu, au_nu]; omega)⟩ ?_
    refine w_iload_n (pc' := 49) dX1_keep_48 rfl rfl ?_
    refine w_iadd (pc' := 50) dX1_keep_49 rfl ⟨by first | omega | (simp (decide := true) only [au_1, nu_2, au_lt, nu_lt, aw_e, nw_e, au_s, au_n, nu_s, nu_n, au_au, nu_nu, au_nu]; omega), by first | omega | (simp (decide := true) only [au_1, nu_2, au_lt, nu_lt, aw_e, nw_e, au_s, au_n, nu_s, nu_n, au_au, nu_nu, au_nu]; omega)⟩ ?_
    refine w_aload_n (pc' := 51) dX1_keep_50 rfl rfl ?_
    refine w_iload_n (pc' := 52) dX1_keep_51 rfl rfl ?_
    refine w_iload_n (pc' := 53) dX1_keep_52 rfl rfl ?_
    -- at 53: .invokevirtual 175
    try simp (decide := true) only [au_1, nu_2, au_lt, nu_lt, aw_e, nw_e, au_s, au_n, nu_s, nu_n, au_au, nu_nu, au_nu]
    refine w_callV2 (pc' := 56) (mc := 0) (ms := 0) dX1_keep_53 rfl tX1_rowOf q1302 rfl rfl qs44 q1300 ov_o rfl (Nat.le_of_ble_eq_true rfl) (Nat.le_of_ble_eq_true rfl) ?_
    refine c_X1_rowOf ⟨by omega, by omega⟩ ⟨by omega, by omega⟩ ?_
    refine w_p1 ?_
    refine w_aui (pc' := 57) dX1_keep_56 rfl rfl (by first | omega | (simp (decide := true) only [au_1, nu_2, au_lt, nu_lt, aw_e, nw_e, au_s, au_n, nu_s, nu_n, au_au, nu_nu, au_nu]; omega)) (by first | omega | (simp (decide := true) only [au_1, nu_2, au_lt, nu_lt, aw_e, nw_e, au_s, au_n, nu_s, nu_n, au_au, nu_nu, au_nu]; omega)) ?_
    try simp (decide := true) only [au_1, nu_2, au_lt, nu_lt, aw_e, nw_e, au_s, au_n, nu_s, nu_n, au_au, nu_nu, au_nu]
    refine w_inc2 (pc' := 60) dX1_keep_57 rfl rfl ⟨by first | omega | (simp (decide := true) only [au_1, nu_2, au_lt, nu_lt, aw_e, nw_e, au_s, au_n, nu_s, nu_n, au_au, nu_nu, au_nu]; omega), by first | omega | (simp (decide := true) only [au_1, nu_2, au_lt, nu_lt, aw_e, nw_e, au_s, au_n, nu_s, nu_n, au_au, nu_nu, au_nu]; omega)⟩ ?_
    refine w_goto (tgt := 27) dX1_keep_60 rfl ?_
    -- at 27: .iload_n 2
    try simp (decide := true) only [au_1, nu_2, au_lt, nu_lt, aw_e, nw_e, au_s, au_n, nu_s, nu_n, au_au, nu_nu, au_nu]
    refine w_ms ?_ ih
    congr 1
    exact rfill_s' h0 rfl (by exact congrArg (σ.2 10) (by omega))
theorem c_X1_takeRow {p i : Int} (hp : 0 ≤ p ∧ p < 16) (hM : σ.2 11 p ≤ 60) (hi : 0 ≤ i ∧ i < σ.2 11 p) (h : K none (ov (sTake σ p i) G0)) : tvW mX1_takeRow (d + 1) K 0 [some (xR mR), some (xI p), some (xI i), none] [] (ov σ G0) bc bs := by
  refine w_iload_n (pc' := 1) dX1_takeRow_0 rfl rfl ?_
  refine w_ist3 (pc' := 2) dX1_takeRow_1 rfl rfl ?_
  -- at 2: .iload_n 3
  try simp (decide := true) only [au_1, nu_2, au_lt, nu_lt, aw_e, nw_e, au_s, au_n, nu_s, nu_n, au_au, nu_nu, au_nu]
  refine w_ms (τ := au σ 10 (rfill (σ.2 10) (60 * p + i) (i - i) (fun q => σ.2 10 (q + 1)))) ?_ ?_
  · rw [Int.sub_self, rfill_0]; exact au_id.symm
  refine up (T := fun k => tvW mX1_takeRow (d + 1) K 2 [some (xR mR), some (xI p), some (xI i), some (xI k)] [] (ov (au σ 10 (rfill (σ.2 10) (60 * p + i) (k - i) (fun q => σ.2 10 (q + 1)))) G0) bc bs) (σ.2 11 p - 1) (by omega) ?_ (fun k h0 h1 ih => ?_)
  · refine w_iload_n (pc' := 3) dX1_takeRow_2 rfl rfl ?_
    refine w_iconst (pc' := 4) dX1_takeRow_3 rfl (by decide) ?_
    refine w_iadd (pc' := 5) dX1_takeRow_4 rfl ⟨by first | omega | (simp (decide := true) only [au_1, nu_2, au_lt, nu_lt, aw_e, nw_e, au_s, au_n, nu_s, nu_n, au_au, nu_nu, au_nu]; omega), by first | omega | (simp (decide := true) only [au_1, nu_2, au_lt, nu_lt, aw_e, nw_e, au_s, au_n, nu_s, nu_n, au_au, nu_nu, au_nu]; omega)⟩ ?_
    refine w_aload_n (pc' := 6) dX1_takeRow_5 rfl rfl ?_
    refine w_mga 11 (pc' := 9) dX1_takeRow_6 rfl fX1_40_1 rfl ?_
    refine w_iload_n (pc' := 10) dX1_takeRow_9 rfl rfl ?_
    refine w_mild (pc' := 11) dX1_takeRow_10 rfl rfl (by first | omega | (simp (decide := true) only [au_1, nu_2, au_lt, nu_lt, aw_e, nw_e, au_s, au_n, nu_s, nu_n, au_au, nu_nu, au_nu]; omega)) (by first | omega | (simp (decide := true) only [au_1, nu_2, au_lt, nu_lt, aw_e, nw_e, au_s, au_n, nu_s, nu_n, au_au, nu_nu, au_nu]; omega)) ?_
    -- at 11: .if_icmp .ge 28
    try simp (decide := true) only [au_1, nu_2, au_lt, nu_lt, aw_e, nw_e, au_s, au_n, nu_s, nu_n, au_au, nu_nu, au_nu]
    refine w_icmp_ge (pc' := 14) (tgt := 39) dX1_takeRow_11 rfl rfl (fun h_ => ?_) (fun h_ => False.elim (by first | omega | (simp (decide := true) only [au_1, nu_2, au_lt, nu_lt, aw_e, nw_e, au_s, au_n, nu_s, nu_n, au_au, nu_nu, au_nu] at h_; omega)))
    refine w_aload_n (pc' := 40) dX1_takeRow_39 rfl rfl ?_
    refine w_mga 11 (pc' := 43) dX1_takeRow_40 rfl fX1_40_1 rfl ?_
    refine w_iload_n (pc' := 44) dX1_takeRow_43 rfl rfl ?_
    refine w_dup2 (pc' := 45) dX1_takeRow_44 rfl rfl rfl ?_
    refine w_mild (pc' := 46) dX1_takeRow_45 rfl rfl (by first | omega | (simp (decide := true) only [au_1, nu_2, au_lt, nu_lt, aw_e, nw_e, au_s, au_n, nu_s, nu_n, au_au, nu_nu, au_nu]; omega)) (by first | omega | (simp (decide := true) only [au_1, nu_2, au_lt, nu_lt, aw_e, nw_e, au_s, au_n, nu_s, nu_n, au_au, nu_nu, au_nu]; omega)) ?_
    refine w_iconst (pc' := 47) dX1_takeRow_46 rfl (by decide) ?_
    refine w_isub (pc' := 48) dX1_takeRow_47 rfl ⟨by first | omega | (simp (decide := true) only [au_1, nu_2, au_lt, nu_lt, aw_e, nw_e, au_s, au_n, nu_s, nu_n, au_au, nu_nu, au_nu]; omega), by first | omega | (simp (decide := true) only [au_1, nu_2, au_lt, nu_lt, aw_e, nw_e, au_s, au_n, nu_s, nu_n, au_au, nu_nu, au_nu]; omega)⟩ ?_
    refine w_aui (pc' := 49) dX1_takeRow_48 rfl rfl (by first | omega | (simp (decide := true) only [au_1, nu_2, au_lt, nu_lt, aw_e, nw_e, au_s, au_n, nu_s, nu_n, au_au, nu_nu, au_nu]; omega)) (by first | omega | (simp (decide := true) only [au_1, nu_2, au_lt, nu_lt, aw_e, nw_e, au_s, au_n, nu_s, nu_n, au_au, nu_nu, au_nu]; omega)) ?_
    try simp (decide := true) only [au_1, nu_2, au_lt, nu_lt, aw_e, nw_e, au_s, au_n, nu_s, nu_n, au_au, nu_nu, au_nu]
    -- at 49: .return_
    try simp (decide := true) only [au_1, nu_2, au_lt, nu_lt, aw_e, nw_e, au_s, au_n, nu_s, nu_n, au_au, nu_nu, au_nu]
    refine w_return dX1_takeRow_49 rfl ?_
    unfold sTake at h
    exact h
  · refine w_iload_n (pc' := 3) dX1_takeRow_2 rfl rfl ?_
    refine w_iconst (pc' := 4) dX1_takeRow_3 rfl (by decide) ?_
    refine w_iadd (pc' := 5) dX1_takeRow_4 rfl ⟨by first | omega | (simp (decide := true) only [au_1, nu_2, au_lt, nu_lt, aw_e, nw_e, au_s, au_n, nu_s, nu_n, au_au, nu_nu, au_nu]; omega), by first | omega | (simp (decide := true) only [au_1, nu_2, au_lt, nu_lt, aw_e, nw_e, au_s, au_n, nu_s, nu_n, au_au, nu_nu, au_nu]; omega)⟩ ?_
    refine w_aload_n (pc' := 6) dX1_takeRow_5 rfl rfl ?_
    refine w_mga 11 (pc' := 9) dX1_takeRow_6 rfl fX1_40_1 rfl ?_
    refine w_iload_n (pc' := 10) dX1_takeRow_9 rfl rfl ?_
    refine w_mild (pc' := 11) dX1_takeRow_10 rfl rfl (by first | omega | (simp (decide := true) only [au_1, nu_2, au_lt, nu_lt, aw_e, nw_e, au_s, au_n, nu_s, nu_n, au_au, nu_nu, au_nu]; omega)) (by first | omega | (simp (decide := true) only [au_1, nu_2, au_lt, nu_lt, aw_e, nw_e, au_s, au_n, nu_s, nu_n, au_au, nu_nu, au_nu]; omega)) ?_
    -- at 11: .if_icmp .ge 28
    try simp (decide := true) only [au_1, nu_2, au_lt, nu_lt, aw_e, nw_e, au_s, au_n, nu_s, nu_n, au_au, nu_nu, au_nu]
    refine w_icmp_ge (pc' := 14) (tgt := 39) dX1_takeRow_11 rfl rfl (fun h_ => False.elim (by first | omega | (simp (decide := true) only [au_1, nu_2, au_lt, nu_lt, aw_e, nw_e, au_s, au_n, nu_s, nu_n, au_au, nu_nu, au_nu] at h_; omega))) (fun h_ => ?_)
    refine w_aload_n (pc' := 15) dX1_takeRow_14 rfl rfl ?_
    refine w_mga 10 (pc' := 18) dX1_takeRow_15 rfl fX1_37_1 rfl ?_
    refine w_bipush (pc' := 20) dX1_takeRow_18 rfl (by decide +kernel) (by decide) ?_
    refine w_iload_n (pc' := 21) dX1_takeRow_20 rfl rfl ?_
    refine w_imul (pc' := 22) dX1_takeRow_21 rfl ⟨by first | omega | (simp (decide := true) only [au_1, nu_2, au_lt, nu_lt, aw_e, nw_e, au_s, au_n, nu_s, nu_n, au_au, nu_nu, au_nu]; omega), by first | omega | (simp (decide := true) only [au_1, nu_2, au_lt, nu_lt, aw_e, nw_e, au_s, au_n, nu_s, nu_n, au_au, nu_nu, au_nu]; omega)⟩ ?_
    refine w_iload_n (pc' := 23) dX1_takeRow_22 rfl rfl ?_
    refine w_iadd (pc' := 24) dX1_takeRow_23 rfl ⟨by first | omega | (simp (decide := true) only [au_1, nu_2, au_lt, nu_lt, aw_e, nw_e, au_s, au_n, nu_s, nu_n, au_au, nu_nu, au_nu]; omega), by first | omega | (simp (decide := true) only [au_1, nu_2, au_lt, nu_lt, aw_e, nw_e, au_s, au_n, nu_s, nu_n, au_au, nu_nu, au_nu]; omega)⟩ ?_
    refine w_aload_n (pc' := 25) dX1_takeRow_24 rfl rfl ?_
    refine w_iload_n (pc' := 26) dX1_takeRow_25 rfl rfl ?_
    refine w_iload_n (pc' := 27) dX1_takeRow_26 rfl rfl ?_
    refine w_iconst (pc' := 28) dX1_takeRow_27 rfl (by decide) ?_
    refine w_iadd (pc' := 29) dX1_takeRow_28 rfl ⟨by first | omega | (simp (decide := true) only [au_1, nu_2, au_lt, nu_lt, aw_e, nw_e, au_s, au_n, nu_s, nu_n, au_au, nu_nu, au_nu]; omega), by first | omega | (simp (decide := true) only [au_1, nu_2, au_lt, nu_lt, aw_e, nw_e, au_s, au_n, nu_s, nu_n, au_au, nu_nu, au_nu]; omega)⟩ ?_
    -- at 29: .invokevirtual 175
    try simp (decide := true) only [au_1, nu_2, au_lt, nu_lt, aw_e, nw_e, au_s, au_n, nu_s, nu_n, au_au, nu_nu, au_nu]
    refine w_callV2 (pc' := 32) (mc := 0) (ms := 0) dX1_takeRow_29 rfl tX1_rowOf q1302 rfl rfl qs44 q1300 ov_o rfl (Nat.le_of_ble_eq_true rfl) (Nat.le_of_ble_eq_true rfl) ?_
    refine c_X1_rowOf ⟨by omega, by omega⟩ ⟨by omega, by omega⟩ ?_
    refine w_p1 ?_
    refine w_aui (pc' := 33) dX1_takeRow_32 rfl rfl (by first | omega | (simp (decide := true) only [au_1, nu_2, au_lt, nu_lt, aw_e, nw_e, au_s, au_n, nu_s, nu_n, au_au, nu_nu, au_nu]; omega)) (by first | omega | (simp (decide := true) only [au_1, nu_2, au_lt, nu_lt, aw_e, nw_e, au_s, au_n, nu_s, nu_n, au_au, nu_nu, au_nu]; omega)) ?_
    try simp (decide := true) only [au_1, nu_2, au_lt, nu_lt, aw_e, nw_e, au_s, au_n, nu_s, nu_n, au_au, nu_nu, au_nu]
    refine w_inc3 (pc' := 36) dX1_takeRow_33 rfl rfl ⟨by first | omega | (simp (decide := true) only [au_1, nu_2, au_lt, nu_lt, aw_e, nw_e, au_s, au_n, nu_s, nu_n, au_au, nu_nu, au_nu]; omega), by first | omega | (simp (decide := true) only [au_1, nu_2, au_lt, nu_lt, aw_e, nw_e, au_s, au_n, nu_s, nu_n, au_au, nu_nu, au_nu]; omega)⟩ ?_
    refine w_goto (tgt := 2) dX1_takeRow_36 rfl ?_
    -- at 2: .iload_n 3
    try simp (decide := true) only [au_1, nu_2, au_lt, nu_lt, aw_e, nw_e, au_s, au_n, nu_s, nu_n, au_au, nu_nu, au_nu]
    refine w_ms ?_ ih
    congr 1
    rw [show k + 1 - i = k - i + 1 by omega]
    exact rfill_s' (by omega) (by omega) (by rw [rwa, rfill_out (by omega)]; exact congrArg (σ.2 10) (by omega))
theorem c_X1_own {p i : Int} (hr : rok σ) (hm : σ.1 9 < 6000) (hp : 0 ≤ p ∧ p < 16) (hi : 0 ≤ i ∧ i < 60) (hrw : 0 ≤ rw_ σ p i ∧ rw_ σ p i < σ.1 9) (h : K none (ov (sOwn σ p i) G0)) : tvW mX1_own (d + 1) K 0 [some (xR mR), some (xI p), some (xI i), none, none, none] [] (ov σ G0) bc bs := by
  obtain ⟨⟨m1, m2⟩, hr⟩ := hr
  obtain ⟨⟨l1, l2⟩, ⟨o1, o2⟩, -⟩ := hr _ hrw.1 hrw.2
  refine w_aload_n (pc' := 1) dX1_own_0 rfl rfl ?_
  refine w_iload_n (pc' := 2) dX1_own_1 rfl rfl ?_
  refine w_iload_n (pc' := 3) dX1_own_2 rfl rfl ?_
  -- at 3: .invokevirtual 175
  try simp (decide := true) only [au_1, nu_2, au_lt, nu_lt, aw_e, nw_e, au_s, au_n, nu_s, nu_n, au_au, nu_nu, au_nu]
  refine w_callV2 (pc' := 6) (mc := 0) (ms := 0) dX1_own_3 rfl tX1_rowOf q1302 rfl rfl qs44 q1300 ov_o rfl (Nat.le_of_ble_eq_true rfl) (Nat.le_of_ble_eq_true rfl) ?_
  refine c_X1_rowOf hp hi ?_
  refine w_p1 ?_
  refine w_ist3 (pc' := 7) dX1_own_6 rfl rfl ?_
  refine w_aload_n (pc' := 8) dX1_own_7 rfl rfl ?_
  refine w_aload_n (pc' := 9) dX1_own_8 rfl rfl ?_
  refine w_mga 6 (pc' := 12) dX1_own_9 rfl fX1_27_1 rfl ?_
  refine w_iload_n (pc' := 13) dX1_own_12 rfl rfl ?_
  refine w_mild (pc' := 14) dX1_own_13 rfl rfl (by first | omega | (simp (decide := true) only [au_1, nu_2, au_lt, nu_lt, aw_e, nw_e, au_s, au_n, nu_s, nu_n, au_au, nu_nu, au_nu]; omega)) (by first | omega | (simp (decide := true) only [au_1, nu_2, au_lt, nu_lt, aw_e, nw_e, au_s, au_n, nu_s, nu_n, au_au, nu_nu, au_nu]; omega)) ?_
  refine w_aload_n (pc' := 15) dX1_own_14 rfl rfl ?_
  refine w_mga 7 (pc' := 18) dX1_own_15 rfl fX1_30_1 rfl ?_
  refine w_iload_n (pc' := 19) dX1_own_18 rfl rfl ?_
  refine w_mild (pc' := 20) dX1_own_19 rfl rfl (by first | omega | (simp (decide := true) only [au_1, nu_2, au_lt, nu_lt, aw_e, nw_e, au_s, au_n, nu_s, nu_n, au_au, nu_nu, au_nu]; omega)) (by first | omega | (simp (decide := true) only [au_1, nu_2, au_lt, nu_lt, aw_e, nw_e, au_s, au_n, nu_s, nu_n, au_au, nu_nu, au_nu]; omega)) ?_
  -- at 20: .invokevirtual 194
  try simp (decide := true) only [au_1, nu_2, au_lt, nu_lt, aw_e, nw_e, au_s, au_n, nu_s, nu_n, au_au, nu_nu, au_nu]
  refine w_callV2 (pc' := 23) (mc := 0) (ms := 0) dX1_own_20 rfl tX1_newRow q1306 rfl rfl qs45 q1304 ov_o rfl (Nat.le_of_ble_eq_true rfl) (Nat.le_of_ble_eq_true rfl) ?_
  refine c_X1_newRow ⟨m1, hm⟩ ⟨l1, l2⟩ ?_
  refine w_p1 ?_
  refine w_ist4 (pc' := 25) dX1_own_23 rfl rfl ?_
  refine w_iconst (pc' := 26) dX1_own_25 rfl (by decide) ?_
  refine w_ist5 (pc' := 28) dX1_own_26 rfl rfl ?_
  -- at 28: .iload 5
  try simp (decide := true) only [au_1, nu_2, au_lt, nu_lt, aw_e, nw_e, au_s, au_n, nu_s, nu_n, au_au, nu_nu, au_nu]
  refine w_ms (τ := nu (au (au (au σ 6 (iset (σ.2 6) (σ.1 9) (σ.2 6 (rw_ σ p i)))) 7 (iset (σ.2 7) (σ.1 9) (σ.2 7 (rw_ σ p i)))) 8 (rfill (rfill (σ.2 8) (60 * σ.1 9) (σ.2 6 (rw_ σ p i)) (fun _ => 0)) (60 * σ.1 9) 0 (fun q => σ.2 8 (q - 60 * σ.1 9 + 60 * rw_ σ p i)))) 9 (σ.1 9 + 1)) ?_ ?_
  · rw [rfill_0]; rfl
  refine up (T := fun k => tvW mX1_own (d + 1) K 28 [some (xR mR), some (xI p), some (xI i), some (xI (rw_ σ p i)), some (xI (σ.1 9)), some (xI k)] [] (ov (nu (au (au (au σ 6 (iset (σ.2 6) (σ.1 9) (σ.2 6 (rw_ σ p i)))) 7 (iset (σ.2 7) (σ.1 9) (σ.2 7 (rw_ σ p i)))) 8 (rfill (rfill (σ.2 8) (60 * σ.1 9) (σ.2 6 (rw_ σ p i)) (fun _ => 0)) (60 * σ.1 9) k (fun q => σ.2 8 (q - 60 * σ.1 9 + 60 * rw_ σ p i)))) 9 (σ.1 9 + 1)) G0) bc bs) (σ.2 6 (rw_ σ p i)) l1 ?_ (fun k h0 h1 ih => ?_)
  · refine w_iload (pc' := 30) dX1_own_28 rfl rfl ?_
    refine w_aload_n (pc' := 31) dX1_own_30 rfl rfl ?_
    refine w_mga 6 (pc' := 34) dX1_own_31 rfl fX1_27_1 rfl ?_
    refine w_iload_n (pc' := 35) dX1_own_34 rfl rfl ?_
    refine w_mild (pc' := 36) dX1_own_35 rfl rfl (by first | omega | (simp (decide := true) only [au_1, nu_2, au_lt, nu_lt, aw_e, nw_e, au_s, au_n, nu_s, nu_n, au_au, nu_nu, au_nu]; omega)) (by first | omega | (simp (decide := true) only [au_1, nu_2, au_lt, nu_lt, aw_e, nw_e, au_s, au_n, nu_s, nu_n, au_au, nu_nu, au_nu]; omega)) ?_
    -- at 36: .if_icmp .ge 34
    try simp (decide := true) only [au_1, nu_2, au_lt, nu_lt, aw_e, nw_e, au_s, au_n, nu_s, nu_n, au_au, nu_nu, au_nu]
    try simp (decide := true) only [au_1, nu_2, au_lt, nu_lt, aw_e, nw_e, au_s, au_n, nu_s, nu_n, au_au, nu_nu, au_nu]
    rw [iset_n (show rw_ σ p i ≠ σ.1 9 by omega)]
    refine w_icmp_ge (pc' := 39) (tgt := 70) dX1_own_36 rfl rfl (fun h_ => ?_) (fun h_ => False.elim (by first | omega | (simp (decide := true) only [au_1, nu_2, au_lt, nu_lt, aw_e, nw_e, au_s, au_n, nu_s, nu_n, au_au, nu_nu, au_nu] at h_; omega)))
    refine w_aload_n (pc' := 71) dX1_own_70 rfl rfl ?_
    refine w_mga 10 (pc' := 74) dX1_own_71 rfl fX1_37_1 rfl ?_
    refine w_bipush (pc' := 76) dX1_own_74 rfl (by decide +kernel) (by decide) ?_
    refine w_iload_n (pc' := 77) dX1_own_76 rfl rfl ?_
    refine w_imul (pc' := 78) dX1_own_77 rfl ⟨by first | omega | (simp (decide := true) only [au_1, nu_2, au_lt, nu_lt, aw_e, nw_e, au_s, au_n, nu_s, nu_n, au_au, nu_nu, au_nu]; omega), by first | omega | (simp (decide := true) only [au_1, nu_2, au_lt, nu_lt, aw_e, nw_e, au_s, au_n, nu_s, nu_n, au_au, nu_nu, au_nu]; omega)⟩ ?_
    refine w_iload_n (pc' := 79) dX1_own_78 rfl rfl ?_
    refine w_iadd (pc' := 80) dX1_own_79 rfl ⟨by first | omega | (simp (decide := true) only [au_1, nu_2, au_lt, nu_lt, aw_e, nw_e, au_s, au_n, nu_s, nu_n, au_au, nu_nu, au_nu]; omega), by first | omega | (simp (decide := true) only [au_1, nu_2, au_lt, nu_lt, aw_e, nw_e, au_s, au_n, nu_s, nu_n, au_au, nu_nu, au_nu]; omega)⟩ ?_
    refine w_iload (pc' := 82) dX1_own_80 rfl rfl ?_
    refine w_aui (pc' := 83) dX1_own_82 rfl rfl (by first | omega | (simp (decide := true) only [au_1, nu_2, au_lt, nu_lt, aw_e, nw_e, au_s, au_n, nu_s, nu_n, au_au, nu_nu, au_nu]; omega)) (by first | omega | (simp (decide := true) only [au_1, nu_2, au_lt, nu_lt, aw_e, nw_e, au_s, au_n, nu_s, nu_n, au_au, nu_nu, au_nu]; omega)) ?_
    try simp (decide := true) only [au_1, nu_2, au_lt, nu_lt, aw_e, nw_e, au_s, au_n, nu_s, nu_n, au_au, nu_nu, au_nu]
    -- at 83: .return_
    try simp (decide := true) only [au_1, nu_2, au_lt, nu_lt, aw_e, nw_e, au_s, au_n, nu_s, nu_n, au_au, nu_nu, au_nu]
    refine w_return dX1_own_83 rfl ?_
    rw [rfill_rfill]
    exact h
  · refine w_iload (pc' := 30) dX1_own_28 rfl rfl ?_
    refine w_aload_n (pc' := 31) dX1_own_30 rfl rfl ?_
    refine w_mga 6 (pc' := 34) dX1_own_31 rfl fX1_27_1 rfl ?_
    refine w_iload_n (pc' := 35) dX1_own_34 rfl rfl ?_
    refine w_mild (pc' := 36) dX1_own_35 rfl rfl (by first | omega | (simp (decide := true) only [au_1, nu_2, au_lt, nu_lt, aw_e, nw_e, au_s, au_n, nu_s, nu_n, au_au, nu_nu, au_nu]; omega)) (by first | omega | (simp (decide := true) only [au_1, nu_2, au_lt, nu_lt, aw_e, nw_e, au_s, au_n, nu_s, nu_n, au_au, nu_nu, au_nu]; omega)) ?_
    -- at 36: .if_icmp .ge 34
    try simp (decide := true) only [au_1, nu_2, au_lt, nu_lt, aw_e, nw_e, au_s, au_n, nu_s, nu_n, au_au, nu_nu, au_nu]
    try simp (decide := true) only [au_1, nu_2, au_lt, nu_lt, aw_e, nw_e, au_s, au_n, nu_s, nu_n, au_au, nu_nu, au_nu]
    rw [iset_n (show rw_ σ p i ≠ σ.1 9 by omega)]
    refine w_icmp_ge (pc' := 39) (tgt := 70) dX1_own_36 rfl rfl (fun h_ => False.elim (by first | omega | (simp (decide := true) only [au_1, nu_2, au_lt, nu_lt, aw_e, nw_e, au_s, au_n, nu_s, nu_n, au_au, nu_nu, au_nu] at h_; omega))) (fun h_ => ?_)
    refine w_aload_n (pc' := 40) dX1_own_39 rfl rfl ?_
    refine w_mga 8 (pc' := 43) dX1_own_40 rfl fX1_34_1 rfl ?_
    refine w_bipush (pc' := 45) dX1_own_43 rfl (by decide +kernel) (by decide) ?_
    refine w_iload (pc' := 47) dX1_own_45 rfl rfl ?_
    refine w_imul (pc' := 48) dX1_own_47 rfl ⟨by first | omega | (simp (decide := true) only [au_1, nu_2, au_lt, nu_lt, aw_e, nw_e, au_s, au_n, nu_s, nu_n, au_au, nu_nu, au_nu]; omega), by first | omega | (simp (decide := true) only [au_1, nu_2, au_lt, nu_lt, aw_e, nw_e, au_s, au_n, nu_s, nu_n, au_au, nu_nu, au_nu]; omega)⟩ ?_
    refine w_iload (pc' := 50) dX1_own_48 rfl rfl ?_
    refine w_iadd (pc' := 51) dX1_own_50 rfl ⟨by first | omega | (simp (decide := true) only [au_1, nu_2, au_lt, nu_lt, aw_e, nw_e, au_s, au_n, nu_s, nu_n, au_au, nu_nu, au_nu]; omega), by first | omega | (simp (decide := true) only [au_1, nu_2, au_lt, nu_lt, aw_e, nw_e, au_s, au_n, nu_s, nu_n, au_au, nu_nu, au_nu]; omega)⟩ ?_
    refine w_aload_n (pc' := 52) dX1_own_51 rfl rfl ?_
    refine w_mga 8 (pc' := 55) dX1_own_52 rfl fX1_34_1 rfl ?_
    refine w_bipush (pc' := 57) dX1_own_55 rfl (by decide +kernel) (by decide) ?_
    refine w_iload_n (pc' := 58) dX1_own_57 rfl rfl ?_
    refine w_imul (pc' := 59) dX1_own_58 rfl ⟨by first | omega | (simp (decide := true) only [au_1, nu_2, au_lt, nu_lt, aw_e, nw_e, au_s, au_n, nu_s, nu_n, au_au, nu_nu, au_nu]; omega), by first | omega | (simp (decide := true) only [au_1, nu_2, au_lt, nu_lt, aw_e, nw_e, au_s, au_n, nu_s, nu_n, au_au, nu_nu, au_nu]; omega)⟩ ?_
    refine w_iload (pc' := 61) dX1_own_59 rfl rfl ?_
    refine w_iadd (pc' := 62) dX1_own_61 rfl ⟨by first | omega | (simp (decide := true) only [au_1, nu_2, au_lt, nu_lt, aw_e, nw_e, au_s, au_n, nu_s, nu_n, au_au, nu_nu, au_nu]; omega), by first | omega | (simp (decide := true) only [au_1, nu_2, au_lt, nu_lt, aw_e, nw_e, au_s, au_n, nu_s, nu_n, au_au, nu_nu, au_nu]; omega)⟩ ?_
    refine w_mild (pc' := 63) dX1_own_62 rfl rfl (by first | omega | (simp (decide := true) only [au_1, nu_2, au_lt, nu_lt, aw_e, nw_e, au_s, au_n, nu_s, nu_n, au_au, nu_nu, au_nu]; omega)) (by first | omega | (simp (decide := true) only [au_1, nu_2, au_lt, nu_lt, aw_e, nw_e, au_s, au_n, nu_s, nu_n, au_au, nu_nu, au_nu]; omega)) ?_
    refine w_aui (pc' := 64) dX1_own_63 rfl rfl (by first | omega | (simp (decide := true) only [au_1, nu_2, au_lt, nu_lt, aw_e, nw_e, au_s, au_n, nu_s, nu_n, au_au, nu_nu, au_nu]; omega)) (by first | omega | (simp (decide := true) only [au_1, nu_2, au_lt, nu_lt, aw_e, nw_e, au_s, au_n, nu_s, nu_n, au_au, nu_nu, au_nu]; omega)) ?_
    try simp (decide := true) only [au_1, nu_2, au_lt, nu_lt, aw_e, nw_e, au_s, au_n, nu_s, nu_n, au_au, nu_nu, au_nu]
    refine w_inc5 (pc' := 67) dX1_own_64 rfl rfl ⟨by first | omega | (simp (decide := true) only [au_1, nu_2, au_lt, nu_lt, aw_e, nw_e, au_s, au_n, nu_s, nu_n, au_au, nu_nu, au_nu]; omega), by first | omega | (simp (decide := true) only [au_1, nu_2, au_lt, nu_lt, aw_e, nw_e, au_s, au_n, nu_s, nu_n, au_au, nu_nu, au_nu]; omega)⟩ ?_
    refine w_goto (tgt := 28) dX1_own_67 rfl ?_
    -- at 28: .iload 5
    try simp (decide := true) only [au_1, nu_2, au_lt, nu_lt, aw_e, nw_e, au_s, au_n, nu_s, nu_n, au_au, nu_nu, au_nu]
    rw [rfill_out (i := 60 * rw_ σ p i + k) (by omega), rfill_out (i := 60 * rw_ σ p i + k) (by omega)]
    refine w_ms ?_ ih
    congr 2
    exact rfill_s' h0 rfl (by exact congrArg (σ.2 8) (by omega))
end
