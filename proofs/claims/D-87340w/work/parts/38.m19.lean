set_option maxRecDepth 10000
/-! the reference is made -/
def pf1 (n k : Nat) : XV := match mT k with
  | some _ => if k < n then xR (mr k) else xN
  | none => xI 0
def pfl_ (n : Nat) : List XV := (List.range 55).map (pf1 n)
theorem pfl_len {n : Nat} : (pfl_ n).length = 55 := by unfold pfl_; rw [List.length_map, List.length_range]
theorem pfl_at {n k : Nat} (h : k < 55) : (pfl_ n)[k]? = some (pf1 n k) := by unfold pfl_; rw [List.getElem?_map, List.getElem?_range h]; rfl
def pv (n : Nat) (G0 : GH) : GH := fun r => if r = mR then some (xob 1 (pfl_ n)) else if r.1 = 1 ∧ r.2.2 = 0 ∧ 0 ≤ r.2.1 ∧ r.2.1.toNat < n then (match mT r.2.1.toNat with | some (t, m) => some (xar t m (fun _ => 0)) | none => G0 r) else G0 r
section
variable {G0 : GH}
theorem pv_0 : gset G0 mR (xob 1 (pfl_ 0)) = pv 0 G0 := by
  funext r
  unfold gset pv
  by_cases h : r = mR
  · rw [if_pos h, if_pos h]
  · rw [if_neg h, if_neg h, if_neg (by omega)]
theorem pfl_k {k : Nat} (h : mT k = none) : pfl_ (k + 1) = pfl_ k := by
  unfold pfl_
  refine List.map_congr_left (fun j hj => ?_)
  unfold pf1
  cases hT : mT j with
  | none => rfl
  | some q =>
    have : j ≠ k := fun e => by rw [e, h] at hT; cases hT
    by_cases g : j < k
    · simp only; rw [if_pos g, if_pos (by omega)]
    · simp only; rw [if_neg g, if_neg (by omega)]
theorem pv_k {k : Nat} (h : mT k = none) : pv k G0 = pv (k + 1) G0 := by
  funext r
  unfold pv
  rw [pfl_k h]
  by_cases h1 : r = mR
  · rw [if_pos h1, if_pos h1]
  · rw [if_neg h1, if_neg h1]
    by_cases h2 : r.1 = 1 ∧ r.2.2 = 0 ∧ 0 ≤ r.2.1 ∧ r.2.1.toNat < k
    · rw [if_pos h2, if_pos ⟨h2.1, h2.2.1, h2.2.2.1, by omega⟩]
    · rw [if_neg h2]
      by_cases h3 : r.1 = 1 ∧ r.2.2 = 0 ∧ 0 ≤ r.2.1 ∧ r.2.1.toNat < k + 1
      · rw [if_pos h3, show r.2.1.toNat = k by omega, h]
      · rw [if_neg h3]
theorem pv_n {k : Nat} (hG : ∀ k, G0 (mr k) = none) : pv k G0 (mr k) = none := by
  unfold pv
  rw [if_neg (by intro q; cases q), if_neg (by show ¬ (1 = 1 ∧ (0 : Int) = 0 ∧ 0 ≤ (k : Int) ∧ (k : Int).toNat < k); omega)]
  exact hG k
theorem pv_o {k j : Nat} {e : XE} : gset (pv k G0) (mr j) e mR = some (xob 1 (pfl_ k)) := by
  rw [gset_n (by intro q; cases q)]
  exact if_pos rfl
theorem pv_s {k t m : Nat} (h : mT k = some (t, m)) : gset (gset (pv k G0) (mr k) (xar t m (fun _ => 0))) mR (xob 1 ((pfl_ k).set k (xR (mr k)))) = pv (k + 1) G0 := by
  have hk : k < 55 := by
    apply Classical.byContradiction
    intro q
    have : mT k = none := by
      unfold mT
      split <;> first | omega | rfl
    rw [this] at h; cases h
  have hl : (pfl_ k).set k (xR (mr k)) = pfl_ (k + 1) := by
    apply List.ext_getElem?
    intro j
    by_cases hj : j = k
    · subst hj
      rw [List.getElem?_set_self (by rw [pfl_len]; exact hk), pfl_at hk]
      unfold pf1
      rw [h]
      simp only
      rw [if_pos (by omega)]
    · rw [List.getElem?_set_ne (Ne.symm hj)]
      by_cases hj2 : j < 55
      · rw [pfl_at hj2, pfl_at hj2]
        unfold pf1
        cases hT : mT j with
        | none => rfl
        | some q =>
          by_cases g : j < k
          · simp only; rw [if_pos g, if_pos (by omega)]
          · simp only; rw [if_neg g, if_neg (by omega)]
      · rw [List.getElem?_eq_none (by rw [pfl_len]; omega), List.getElem?_eq_none (by rw [pfl_len]; omega)]
  rw [hl]
  funext r
  unfold gset pv
  by_cases h1 : r = mR
  · rw [if_pos h1, if_pos h1]
  · rw [if_neg h1, if_neg h1, if_neg h1]
    by_cases h2 : r = mr k
    · subst h2
      rw [if_pos rfl, if_pos (by show 1 = 1 ∧ (0 : Int) = 0 ∧ 0 ≤ (k : Int) ∧ (k : Int).toNat < k + 1; omega)]
      show _ = (match mT (k : Int).toNat with | some (t, m) => some (xar t m (fun _ => 0)) | none => G0 (mr k))
      rw [Int.toNat_natCast, h]
    · rw [if_neg h2]
      by_cases h3 : r.1 = 1 ∧ r.2.2 = 0 ∧ 0 ≤ r.2.1 ∧ r.2.1.toNat < k
      · rw [if_pos h3, if_pos ⟨h3.1, h3.2.1, h3.2.2.1, by omega⟩]
      · rw [if_neg h3]
        by_cases h4 : r.1 = 1 ∧ r.2.2 = 0 ∧ 0 ≤ r.2.1 ∧ r.2.1.toNat < k + 1
        · exfalso
          apply h2
          obtain ⟨a, b, c⟩ := r
          obtain ⟨q1, q2, q3, q4⟩ := h4
          simp only at q1 q2 q3 q4 h3
          have : b = (k : Int) := by omega
          rw [q1, q2, this]
        · rw [if_neg h4]
def ms0 : MS := (fun _ => 0, fun _ _ => 0)
theorem pv_e : pv 55 G0 = ov ms0 G0 := by
  funext r
  unfold pv ov
  by_cases h1 : r = mR
  · rw [if_pos h1, if_pos h1]
    have : pfl_ 55 = mfl ms0 := by
      unfold pfl_ mfl
      refine List.map_congr_left (fun j hj => ?_)
      have hj := List.mem_range.mp hj
      unfold pf1 mfv
      cases hT : mT j with
      | none => rfl
      | some q => simp only; rw [if_pos hj]
    rw [this]
  · rw [if_neg h1, if_neg h1]
    by_cases h2 : r.1 = 1 ∧ r.2.2 = 0 ∧ 0 ≤ r.2.1
    · rw [if_pos h2]
      by_cases h3 : r.2.1.toNat < 55
      · rw [if_pos ⟨h2.1, h2.2.1, h2.2.2, h3⟩]
        rfl
      · rw [if_neg (by omega)]
        have : mT r.2.1.toNat = none := by
          generalize r.2.1.toNat = q at h3
          unfold mT
          split <;> first | omega | rfl
        rw [this]
    · rw [if_neg h2, if_neg (by omega)]
variable {d : Nat} {K : Option XV → GH → Prop}
theorem c_X1_init (hG : ∀ k, G0 (mr k) = none) (h : K none (ov ms0 G0)) : tvW mX1_init (d + 1) K 0 [some (xR mR)] [] (gset G0 mR (xob 1 (pfl_ 0))) 35 391230 := by
  refine w_G pv_0 ?_
  refine w_aload_n (pc' := 1) dX1_init_0 rfl rfl ?_
  -- at 1: .invokespecial 1
  try simp (decide := true) only [au_1, nu_2, au_lt, nu_lt, aw_e, nw_e, au_s, au_n, nu_s, nu_n, au_au, nu_nu, au_nu]
  refine w_objI (pc' := 4) dX1_init_1 rfl q1070 q110 q111 (Nat.le_of_ble_eq_true rfl) ?_
  refine w_aload_n (pc' := 5) dX1_init_4 rfl rfl ?_
  refine w_bipush (pc' := 7) dX1_init_5 rfl (by decide +kernel) (by decide) ?_
  -- at 7: .newarray .int
  try simp (decide := true) only [au_1, nu_2, au_lt, nu_lt, aw_e, nw_e, au_s, au_n, nu_s, nu_n, au_au, nu_nu, au_nu]
  refine w_newi (mr 0) 40 (pc' := 9) dX1_init_7 rfl rfl (by decide) (pv_n hG) (by decide) ?_
  refine w_put 0 (pc' := 12) dX1_init_9 rfl pX1_7_1 (by decide) pv_o (by rw [pfl_len]; decide) trivial ?_
  refine w_G (pv_s (k := 0) (t := 0) (m := 40) rfl) ?_
  refine w_aload_n (pc' := 13) dX1_init_12 rfl rfl ?_
  refine w_bipush (pc' := 15) dX1_init_13 rfl (by decide +kernel) (by decide) ?_
  -- at 15: .newarray .int
  try simp (decide := true) only [au_1, nu_2, au_lt, nu_lt, aw_e, nw_e, au_s, au_n, nu_s, nu_n, au_au, nu_nu, au_nu]
  refine w_newi (mr 1) 40 (pc' := 17) dX1_init_15 rfl rfl (by decide) (pv_n hG) (by decide) ?_
  refine w_put 1 (pc' := 20) dX1_init_17 rfl pX1_13_1 (by decide) pv_o (by rw [pfl_len]; decide) trivial ?_
  refine w_G (pv_s (k := 1) (t := 0) (m := 40) rfl) ?_
  refine w_aload_n (pc' := 21) dX1_init_20 rfl rfl ?_
  refine w_bipush (pc' := 23) dX1_init_21 rfl (by decide +kernel) (by decide) ?_
  -- at 23: .newarray .int
  try simp (decide := true) only [au_1, nu_2, au_lt, nu_lt, aw_e, nw_e, au_s, au_n, nu_s, nu_n, au_au, nu_nu, au_nu]
  refine w_newi (mr 2) 40 (pc' := 25) dX1_init_23 rfl rfl (by decide) (pv_n hG) (by decide) ?_
  refine w_put 2 (pc' := 28) dX1_init_25 rfl pX1_16_1 (by decide) pv_o (by rw [pfl_len]; decide) trivial ?_
  refine w_G (pv_s (k := 2) (t := 0) (m := 40) rfl) ?_
  refine w_aload_n (pc' := 29) dX1_init_28 rfl rfl ?_
  refine w_bipush (pc' := 31) dX1_init_29 rfl (by decide +kernel) (by decide) ?_
  -- at 31: .newarray .boolean
  try simp (decide := true) only [au_1, nu_2, au_lt, nu_lt, aw_e, nw_e, au_s, au_n, nu_s, nu_n, au_au, nu_nu, au_nu]
  refine w_newz (mr 3) 40 (pc' := 33) dX1_init_31 rfl rfl (by decide) (pv_n hG) (by decide) ?_
  refine w_put 3 (pc' := 36) dX1_init_33 rfl pX1_19_1 (by decide) pv_o (by rw [pfl_len]; decide) trivial ?_
  refine w_G (pv_s (k := 3) (t := 3) (m := 40) rfl) ?_
  refine w_aload_n (pc' := 37) dX1_init_36 rfl rfl ?_
  refine w_bipush (pc' := 39) dX1_init_37 rfl (by decide +kernel) (by decide) ?_
  -- at 39: .newarray .long
  try simp (decide := true) only [au_1, nu_2, au_lt, nu_lt, aw_e, nw_e, au_s, au_n, nu_s, nu_n, au_au, nu_nu, au_nu]
  refine w_newl (mr 4) 40 (pc' := 41) dX1_init_39 rfl rfl (by decide) (pv_n hG) (by decide) ?_
  refine w_put 4 (pc' := 44) dX1_init_41 rfl pX1_23_1 (by decide) pv_o (by rw [pfl_len]; decide) trivial ?_
  refine w_G (pv_s (k := 4) (t := 4) (m := 40) rfl) ?_
  refine w_G (pv_k (k := 5) rfl) ?_
  refine w_aload_n (pc' := 45) dX1_init_44 rfl rfl ?_
  refine w_sipush (pc' := 48) dX1_init_45 rfl (by decide +kernel) (by decide) ?_
  -- at 48: .newarray .int
  try simp (decide := true) only [au_1, nu_2, au_lt, nu_lt, aw_e, nw_e, au_s, au_n, nu_s, nu_n, au_au, nu_nu, au_nu]
  refine w_newi (mr 6) 6000 (pc' := 50) dX1_init_48 rfl rfl (by decide) (pv_n hG) (by decide) ?_
  refine w_put 6 (pc' := 53) dX1_init_50 rfl pX1_27_1 (by decide) pv_o (by rw [pfl_len]; decide) trivial ?_
  refine w_G (pv_s (k := 6) (t := 0) (m := 6000) rfl) ?_
  refine w_aload_n (pc' := 54) dX1_init_53 rfl rfl ?_
  refine w_sipush (pc' := 57) dX1_init_54 rfl (by decide +kernel) (by decide) ?_
  -- at 57: .newarray .int
  try simp (decide := true) only [au_1, nu_2, au_lt, nu_lt, aw_e, nw_e, au_s, au_n, nu_s, nu_n, au_au, nu_nu, au_nu]
  refine w_newi (mr 7) 6000 (pc' := 59) dX1_init_57 rfl rfl (by decide) (pv_n hG) (by decide) ?_
  refine w_put 7 (pc' := 62) dX1_init_59 rfl pX1_30_1 (by decide) pv_o (by rw [pfl_len]; decide) trivial ?_
  refine w_G (pv_s (k := 7) (t := 0) (m := 6000) rfl) ?_
  refine w_aload_n (pc' := 63) dX1_init_62 rfl rfl ?_
  refine w_ldc (z := 360000) (pc' := 65) dX1_init_63 rfl q1071 (by decide +kernel) (by decide) ?_
  -- at 65: .newarray .int
  try simp (decide := true) only [au_1, nu_2, au_lt, nu_lt, aw_e, nw_e, au_s, au_n, nu_s, nu_n, au_au, nu_nu, au_nu]
  refine w_newi (mr 8) 360000 (pc' := 67) dX1_init_65 rfl rfl (by decide) (pv_n hG) (by decide) ?_
  refine w_put 8 (pc' := 70) dX1_init_67 rfl pX1_34_1 (by decide) pv_o (by rw [pfl_len]; decide) trivial ?_
  refine w_G (pv_s (k := 8) (t := 0) (m := 360000) rfl) ?_
  refine w_G (pv_k (k := 9) rfl) ?_
  refine w_aload_n (pc' := 71) dX1_init_70 rfl rfl ?_
  refine w_sipush (pc' := 74) dX1_init_71 rfl (by decide +kernel) (by decide) ?_
  -- at 74: .newarray .int
  try simp (decide := true) only [au_1, nu_2, au_lt, nu_lt, aw_e, nw_e, au_s, au_n, nu_s, nu_n, au_au, nu_nu, au_nu]
  refine w_newi (mr 10) 960 (pc' := 76) dX1_init_74 rfl rfl (by decide) (pv_n hG) (by decide) ?_
  refine w_put 10 (pc' := 79) dX1_init_76 rfl pX1_37_1 (by decide) pv_o (by rw [pfl_len]; decide) trivial ?_
  refine w_G (pv_s (k := 10) (t := 0) (m := 960) rfl) ?_
  refine w_aload_n (pc' := 80) dX1_init_79 rfl rfl ?_
  refine w_bipush (pc' := 82) dX1_init_80 rfl (by decide +kernel) (by decide) ?_
  -- at 82: .newarray .int
  try simp (decide := true) only [au_1, nu_2, au_lt, nu_lt, aw_e, nw_e, au_s, au_n, nu_s, nu_n, au_au, nu_nu, au_nu]
  refine w_newi (mr 11) 16 (pc' := 84) dX1_init_82 rfl rfl (by decide) (pv_n hG) (by decide) ?_
  refine w_put 11 (pc' := 87) dX1_init_84 rfl pX1_40_1 (by decide) pv_o (by rw [pfl_len]; decide) trivial ?_
  refine w_G (pv_s (k := 11) (t := 0) (m := 16) rfl) ?_
  refine w_G (pv_k (k := 12) rfl) ?_
  refine w_aload_n (pc' := 88) dX1_init_87 rfl rfl ?_
  refine w_bipush (pc' := 90) dX1_init_88 rfl (by decide +kernel) (by decide) ?_
  -- at 90: .newarray .int
  try simp (decide := true) only [au_1, nu_2, au_lt, nu_lt, aw_e, nw_e, au_s, au_n, nu_s, nu_n, au_au, nu_nu, au_nu]
  refine w_newi (mr 13) 40 (pc' := 92) dX1_init_90 rfl rfl (by decide) (pv_n hG) (by decide) ?_
  refine w_put 13 (pc' := 95) dX1_init_92 rfl pX1_43_1 (by decide) pv_o (by rw [pfl_len]; decide) trivial ?_
  refine w_G (pv_s (k := 13) (t := 0) (m := 40) rfl) ?_
  refine w_aload_n (pc' := 96) dX1_init_95 rfl rfl ?_
  refine w_bipush (pc' := 98) dX1_init_96 rfl (by decide +kernel) (by decide) ?_
  -- at 98: .newarray .int
  try simp (decide := true) only [au_1, nu_2, au_lt, nu_lt, aw_e, nw_e, au_s, au_n, nu_s, nu_n, au_au, nu_nu, au_nu]
  refine w_newi (mr 14) 40 (pc' := 100) dX1_init_98 rfl rfl (by decide) (pv_n hG) (by decide) ?_
  refine w_put 14 (pc' := 103) dX1_init_100 rfl pX1_46_1 (by decide) pv_o (by rw [pfl_len]; decide) trivial ?_
  refine w_G (pv_s (k := 14) (t := 0) (m := 40) rfl) ?_
  refine w_aload_n (pc' := 104) dX1_init_103 rfl rfl ?_
  refine w_sipush (pc' := 107) dX1_init_104 rfl (by decide +kernel) (by decide) ?_
  -- at 107: .newarray .int
  try simp (decide := true) only [au_1, nu_2, au_lt, nu_lt, aw_e, nw_e, au_s, au_n, nu_s, nu_n, au_au, nu_nu, au_nu]
  refine w_newi (mr 15) 2400 (pc' := 109) dX1_init_107 rfl rfl (by decide) (pv_n hG) (by decide) ?_
  refine w_put 15 (pc' := 112) dX1_init_109 rfl pX1_49_1 (by decide) pv_o (by rw [pfl_len]; decide) trivial ?_
  refine w_G (pv_s (k := 15) (t := 0) (m := 2400) rfl) ?_
  refine w_G (pv_k (k := 16) rfl) ?_
  refine w_G (pv_k (k := 17) rfl) ?_
  refine w_G (pv_k (k := 18) rfl) ?_
  refine w_G (pv_k (k := 19) rfl) ?_
  refine w_aload_n (pc' := 113) dX1_init_112 rfl rfl ?_
  refine w_sipush (pc' := 116) dX1_init_113 rfl (by decide +kernel) (by decide) ?_
  -- at 116: .newarray .int
  try simp (decide := true) only [au_1, nu_2, au_lt, nu_lt, aw_e, nw_e, au_s, au_n, nu_s, nu_n, au_au, nu_nu, au_nu]
  refine w_newi (mr 20) 400 (pc' := 118) dX1_init_116 rfl rfl (by decide) (pv_n hG) (by decide) ?_
  refine w_put 20 (pc' := 121) dX1_init_118 rfl pX1_52_1 (by decide) pv_o (by rw [pfl_len]; decide) trivial ?_
  refine w_G (pv_s (k := 20) (t := 0) (m := 400) rfl) ?_
  refine w_aload_n (pc' := 122) dX1_init_121 rfl rfl ?_
  refine w_sipush (pc' := 125) dX1_init_122 rfl (by decide +kernel) (by decide) ?_
  -- at 125: .newarray .int
  try simp (decide := true) only [au_1, nu_2, au_lt, nu_lt, aw_e, nw_e, au_s, au_n, nu_s, nu_n, au_au, nu_nu, au_nu]
  refine w_newi (mr 21) 400 (pc' := 127) dX1_init_125 rfl rfl (by decide) (pv_n hG) (by decide) ?_
  refine w_put 21 (pc' := 130) dX1_init_127 rfl pX1_55_1 (by decide) pv_o (by rw [pfl_len]; decide) trivial ?_
  refine w_G (pv_s (k := 21) (t := 0) (m := 400) rfl) ?_
  refine w_aload_n (pc' := 131) dX1_init_130 rfl rfl ?_
  refine w_sipush (pc' := 134) dX1_init_131 rfl (by decide +kernel) (by decide) ?_
  -- at 134: .newarray .boolean
  try simp (decide := true) only [au_1, nu_2, au_lt, nu_lt, aw_e, nw_e, au_s, au_n, nu_s, nu_n, au_au, nu_nu, au_nu]
  refine w_newz (mr 22) 400 (pc' := 136) dX1_init_134 rfl rfl (by decide) (pv_n hG) (by decide) ?_
  refine w_put 22 (pc' := 139) dX1_init_136 rfl pX1_58_1 (by decide) pv_o (by rw [pfl_len]; decide) trivial ?_
  refine w_G (pv_s (k := 22) (t := 3) (m := 400) rfl) ?_
  refine w_aload_n (pc' := 140) dX1_init_139 rfl rfl ?_
  refine w_sipush (pc' := 143) dX1_init_140 rfl (by decide +kernel) (by decide) ?_
  -- at 143: .newarray .boolean
  try simp (decide := true) only [au_1, nu_2, au_lt, nu_lt, aw_e, nw_e, au_s, au_n, nu_s, nu_n, au_au, nu_nu, au_nu]
  refine w_newz (mr 23) 400 (pc' := 145) dX1_init_143 rfl rfl (by decide) (pv_n hG) (by decide) ?_
  refine w_put 23 (pc' := 148) dX1_init_145 rfl pX1_61_1 (by decide) pv_o (by rw [pfl_len]; decide) trivial ?_
  refine w_G (pv_s (k := 23) (t := 3) (m := 400) rfl) ?_
  refine w_G (pv_k (k := 24) rfl) ?_
  refine w_G (pv_k (k := 25) rfl) ?_
  refine w_aload_n (pc' := 149) dX1_init_148 rfl rfl ?_
  refine w_bipush (pc' := 151) dX1_init_149 rfl (by decide +kernel) (by decide) ?_
  -- at 151: .newarray .int
  try simp (decide := true) only [au_1, nu_2, au_lt, nu_lt, aw_e, nw_e, au_s, au_n, nu_s, nu_n, au_au, nu_nu, au_nu]
  refine w_newi (mr 26) 8 (pc' := 153) dX1_init_151 rfl rfl (by decide) (pv_n hG) (by decide) ?_
  refine w_put 26 (pc' := 156) dX1_init_153 rfl pX1_64_1 (by decide) pv_o (by rw [pfl_len]; decide) trivial ?_
  refine w_G (pv_s (k := 26) (t := 0) (m := 8) rfl) ?_
  refine w_aload_n (pc' := 157) dX1_init_156 rfl rfl ?_
  refine w_bipush (pc' := 159) dX1_init_157 rfl (by decide +kernel) (by decide) ?_
  -- at 159: .newarray .int
  try simp (decide := true) only [au_1, nu_2, au_lt, nu_lt, aw_e, nw_e, au_s, au_n, nu_s, nu_n, au_au, nu_nu, au_nu]
  refine w_newi (mr 27) 8 (pc' := 161) dX1_init_159 rfl rfl (by decide) (pv_n hG) (by decide) ?_
  refine w_put 27 (pc' := 164) dX1_init_161 rfl pX1_67_1 (by decide) pv_o (by rw [pfl_len]; decide) trivial ?_
  refine w_G (pv_s (k := 27) (t := 0) (m := 8) rfl) ?_
  refine w_aload_n (pc' := 165) dX1_init_164 rfl rfl ?_
  refine w_sipush (pc' := 168) dX1_init_165 rfl (by decide +kernel) (by decide) ?_
  -- at 168: .newarray .int
  try simp (decide := true) only [au_1, nu_2, au_lt, nu_lt, aw_e, nw_e, au_s, au_n, nu_s, nu_n, au_au, nu_nu, au_nu]
  refine w_newi (mr 28) 5120 (pc' := 170) dX1_init_168 rfl rfl (by decide) (pv_n hG) (by decide) ?_
  refine w_put 28 (pc' := 173) dX1_init_170 rfl pX1_70_1 (by decide) pv_o (by rw [pfl_len]; decide) trivial ?_
  refine w_G (pv_s (k := 28) (t := 0) (m := 5120) rfl) ?_
  refine w_G (pv_k (k := 29) rfl) ?_
  refine w_aload_n (pc' := 174) dX1_init_173 rfl rfl ?_
  refine w_sipush (pc' := 177) dX1_init_174 rfl (by decide +kernel) (by decide) ?_
  -- at 177: .newarray .int
  try simp (decide := true) only [au_1, nu_2, au_lt, nu_lt, aw_e, nw_e, au_s, au_n, nu_s, nu_n, au_au, nu_nu, au_nu]
  refine w_newi (mr 30) 7200 (pc' := 179) dX1_init_177 rfl rfl (by decide) (pv_n hG) (by decide) ?_
  refine w_put 30 (pc' := 182) dX1_init_179 rfl pX1_73_1 (by decide) pv_o (by rw [pfl_len]; decide) trivial ?_
  refine w_G (pv_s (k := 30) (t := 0) (m := 7200) rfl) ?_
  refine w_aload_n (pc' := 183) dX1_init_182 rfl rfl ?_
  refine w_bipush (pc' := 185) dX1_init_183 rfl (by decide +kernel) (by decide) ?_
  -- at 185: .newarray .int
  try simp (decide := true) only [au_1, nu_2, au_lt, nu_lt, aw_e, nw_e, au_s, au_n, nu_s, nu_n, au_au, nu_nu, au_nu]
  refine w_newi (mr 31) 120 (pc' := 187) dX1_init_185 rfl rfl (by decide) (pv_n hG) (by decide) ?_
  refine w_put 31 (pc' := 190) dX1_init_187 rfl pX1_76_1 (by decide) pv_o (by rw [pfl_len]; decide) trivial ?_
  refine w_G (pv_s (k := 31) (t := 0) (m := 120) rfl) ?_
  refine w_aload_n (pc' := 191) dX1_init_190 rfl rfl ?_
  refine w_bipush (pc' := 193) dX1_init_191 rfl (by decide +kernel) (by decide) ?_
  -- at 193: .newarray .int
  try simp (decide := true) only [au_1, nu_2, au_lt, nu_lt, aw_e, nw_e, au_s, au_n, nu_s, nu_n, au_au, nu_nu, au_nu]
  refine w_newi (mr 32) 120 (pc' := 195) dX1_init_193 rfl rfl (by decide) (pv_n hG) (by decide) ?_
  refine w_put 32 (pc' := 198) dX1_init_195 rfl pX1_79_1 (by decide) pv_o (by rw [pfl_len]; decide) trivial ?_
  refine w_G (pv_s (k := 32) (t := 0) (m := 120) rfl) ?_
  refine w_aload_n (pc' := 199) dX1_init_198 rfl rfl ?_
  refine w_bipush (pc' := 201) dX1_init_199 rfl (by decide +kernel) (by decide) ?_
  -- at 201: .newarray .long
  try simp (decide := true) only [au_1, nu_2, au_lt, nu_lt, aw_e, nw_e, au_s, au_n, nu_s, nu_n, au_au, nu_nu, au_nu]
  refine w_newl (mr 33) 40 (pc' := 203) dX1_init_201 rfl rfl (by decide) (pv_n hG) (by decide) ?_
  refine w_put 33 (pc' := 206) dX1_init_203 rfl pX1_82_1 (by decide) pv_o (by rw [pfl_len]; decide) trivial ?_
  refine w_G (pv_s (k := 33) (t := 4) (m := 40) rfl) ?_
  refine w_aload_n (pc' := 207) dX1_init_206 rfl rfl ?_
  refine w_bipush (pc' := 209) dX1_init_207 rfl (by decide +kernel) (by decide) ?_
  -- at 209: .newarray .long
  try simp (decide := true) only [au_1, nu_2, au_lt, nu_lt, aw_e, nw_e, au_s, au_n, nu_s, nu_n, au_au, nu_nu, au_nu]
  refine w_newl (mr 34) 40 (pc' := 211) dX1_init_209 rfl rfl (by decide) (pv_n hG) (by decide) ?_
  refine w_put 34 (pc' := 214) dX1_init_211 rfl pX1_85_1 (by decide) pv_o (by rw [pfl_len]; decide) trivial ?_
  refine w_G (pv_s (k := 34) (t := 4) (m := 40) rfl) ?_
  refine w_aload_n (pc' := 215) dX1_init_214 rfl rfl ?_
  refine w_bipush (pc' := 217) dX1_init_215 rfl (by decide +kernel) (by decide) ?_
  -- at 217: .newarray .int
  try simp (decide := true) only [au_1, nu_2, au_lt, nu_lt, aw_e, nw_e, au_s, au_n, nu_s, nu_n, au_au, nu_nu, au_nu]
  refine w_newi (mr 35) 6 (pc' := 219) dX1_init_217 rfl rfl (by decide) (pv_n hG) (by decide) ?_
  refine w_put 35 (pc' := 222) dX1_init_219 rfl pX1_88_1 (by decide) pv_o (by rw [pfl_len]; decide) trivial ?_
  refine w_G (pv_s (k := 35) (t := 0) (m := 6) rfl) ?_
  refine w_aload_n (pc' := 223) dX1_init_222 rfl rfl ?_
  refine w_bipush (pc' := 225) dX1_init_223 rfl (by decide +kernel) (by decide) ?_
  -- at 225: .newarray .int
  try simp (decide := true) only [au_1, nu_2, au_lt, nu_lt, aw_e, nw_e, au_s, au_n, nu_s, nu_n, au_au, nu_nu, au_nu]
  refine w_newi (mr 36) 6 (pc' := 227) dX1_init_225 rfl rfl (by decide) (pv_n hG) (by decide) ?_
  refine w_put 36 (pc' := 230) dX1_init_227 rfl pX1_91_1 (by decide) pv_o (by rw [pfl_len]; decide) trivial ?_
  refine w_G (pv_s (k := 36) (t := 0) (m := 6) rfl) ?_
  refine w_aload_n (pc' := 231) dX1_init_230 rfl rfl ?_
  refine w_sipush (pc' := 234) dX1_init_231 rfl (by decide +kernel) (by decide) ?_
  -- at 234: .newarray .int
  try simp (decide := true) only [au_1, nu_2, au_lt, nu_lt, aw_e, nw_e, au_s, au_n, nu_s, nu_n, au_au, nu_nu, au_nu]
  refine w_newi (mr 37) 384 (pc' := 236) dX1_init_234 rfl rfl (by decide) (pv_n hG) (by decide) ?_
  refine w_put 37 (pc' := 239) dX1_init_236 rfl pX1_94_1 (by decide) pv_o (by rw [pfl_len]; decide) trivial ?_
  refine w_G (pv_s (k := 37) (t := 0) (m := 384) rfl) ?_
  refine w_aload_n (pc' := 240) dX1_init_239 rfl rfl ?_
  refine w_sipush (pc' := 243) dX1_init_240 rfl (by decide +kernel) (by decide) ?_
  -- at 243: .newarray .int
  try simp (decide := true) only [au_1, nu_2, au_lt, nu_lt, aw_e, nw_e, au_s, au_n, nu_s, nu_n, au_au, nu_nu, au_nu]
  refine w_newi (mr 38) 384 (pc' := 245) dX1_init_243 rfl rfl (by decide) (pv_n hG) (by decide) ?_
  refine w_put 38 (pc' := 248) dX1_init_245 rfl pX1_97_1 (by decide) pv_o (by rw [pfl_len]; decide) trivial ?_
  refine w_G (pv_s (k := 38) (t := 0) (m := 384) rfl) ?_
  refine w_aload_n (pc' := 249) dX1_init_248 rfl rfl ?_
  refine w_sipush (pc' := 252) dX1_init_249 rfl (by decide +kernel) (by decide) ?_
  -- at 252: .newarray .int
  try simp (decide := true) only [au_1, nu_2, au_lt, nu_lt, aw_e, nw_e, au_s, au_n, nu_s, nu_n, au_au, nu_nu, au_nu]
  refine w_newi (mr 39) 240 (pc' := 254) dX1_init_252 rfl rfl (by decide) (pv_n hG) (by decide) ?_
  refine w_put 39 (pc' := 257) dX1_init_254 rfl pX1_100_1 (by decide) pv_o (by rw [pfl_len]; decide) trivial ?_
  refine w_G (pv_s (k := 39) (t := 0) (m := 240) rfl) ?_
  refine w_G (pv_k (k := 40) rfl) ?_
  refine w_G (pv_k (k := 41) rfl) ?_
  refine w_G (pv_k (k := 42) rfl) ?_
  refine w_G (pv_k (k := 43) rfl) ?_
  refine w_aload_n (pc' := 258) dX1_init_257 rfl rfl ?_
  refine w_bipush (pc' := 260) dX1_init_258 rfl (by decide +kernel) (by decide) ?_
  -- at 260: .newarray .int
  try simp (decide := true) only [au_1, nu_2, au_lt, nu_lt, aw_e, nw_e, au_s, au_n, nu_s, nu_n, au_au, nu_nu, au_nu]
  refine w_newi (mr 44) 64 (pc' := 262) dX1_init_260 rfl rfl (by decide) (pv_n hG) (by decide) ?_
  refine w_put 44 (pc' := 265) dX1_init_262 rfl pX1_103_1 (by decide) pv_o (by rw [pfl_len]; decide) trivial ?_
  refine w_G (pv_s (k := 44) (t := 0) (m := 64) rfl) ?_
  refine w_aload_n (pc' := 266) dX1_init_265 rfl rfl ?_
  refine w_bipush (pc' := 268) dX1_init_266 rfl (by decide +kernel) (by decide) ?_
  -- at 268: .newarray .int
  try simp (decide := true) only [au_1, nu_2, au_lt, nu_lt, aw_e, nw_e, au_s, au_n, nu_s, nu_n, au_au, nu_nu, au_nu]
  refine w_newi (mr 45) 40 (pc' := 270) dX1_init_268 rfl rfl (by decide) (pv_n hG) (by decide) ?_
  refine w_put 45 (pc' := 273) dX1_init_270 rfl pX1_106_1 (by decide) pv_o (by rw [pfl_len]; decide) trivial ?_
  refine w_G (pv_s (k := 45) (t := 0) (m := 40) rfl) ?_
  refine w_aload_n (pc' := 274) dX1_init_273 rfl rfl ?_
  refine w_bipush (pc' := 276) dX1_init_274 rfl (by decide +kernel) (by decide) ?_
  -- at 276: .newarray .int
  try simp (decide := true) only [au_1, nu_2, au_lt, nu_lt, aw_e, nw_e, au_s, au_n, nu_s, nu_n, au_au, nu_nu, au_nu]
  refine w_newi (mr 46) 64 (pc' := 278) dX1_init_276 rfl rfl (by decide) (pv_n hG) (by decide) ?_
  refine w_put 46 (pc' := 281) dX1_init_278 rfl pX1_109_1 (by decide) pv_o (by rw [pfl_len]; decide) trivial ?_
  refine w_G (pv_s (k := 46) (t := 0) (m := 64) rfl) ?_
  refine w_aload_n (pc' := 282) dX1_init_281 rfl rfl ?_
  refine w_bipush (pc' := 284) dX1_init_282 rfl (by decide +kernel) (by decide) ?_
  -- at 284: .newarray .int
  try simp (decide := true) only [au_1, nu_2, au_lt, nu_lt, aw_e, nw_e, au_s, au_n, nu_s, nu_n, au_au, nu_nu, au_nu]
  refine w_newi (mr 47) 65 (pc' := 286) dX1_init_284 rfl rfl (by decide) (pv_n hG) (by decide) ?_
  refine w_put 47 (pc' := 289) dX1_init_286 rfl pX1_112_1 (by decide) pv_o (by rw [pfl_len]; decide) trivial ?_
  refine w_G (pv_s (k := 47) (t := 0) (m := 65) rfl) ?_
  refine w_aload_n (pc' := 290) dX1_init_289 rfl rfl ?_
  refine w_bipush (pc' := 292) dX1_init_290 rfl (by decide +kernel) (by decide) ?_
  -- at 292: .newarray .int
  try simp (decide := true) only [au_1, nu_2, au_lt, nu_lt, aw_e, nw_e, au_s, au_n, nu_s, nu_n, au_au, nu_nu, au_nu]
  refine w_newi (mr 48) 65 (pc' := 294) dX1_init_292 rfl rfl (by decide) (pv_n hG) (by decide) ?_
  refine w_put 48 (pc' := 297) dX1_init_294 rfl pX1_115_1 (by decide) pv_o (by rw [pfl_len]; decide) trivial ?_
  refine w_G (pv_s (k := 48) (t := 0) (m := 65) rfl) ?_
  refine w_G (pv_k (k := 49) rfl) ?_
  refine w_G (pv_k (k := 50) rfl) ?_
  refine w_G (pv_k (k := 51) rfl) ?_
  refine w_G (pv_k (k := 52) rfl) ?_
  refine w_G (pv_k (k := 53) rfl) ?_
  refine w_G (pv_k (k := 54) rfl) ?_
  refine w_G pv_e ?_
  refine w_return dX1_init_297 rfl ?_
  exact h
end
