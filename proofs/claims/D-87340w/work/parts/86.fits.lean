set_option maxRecDepth 10000
abbrev fob (f : Int) (H W : Nat) (z0 z1 z2 z3 z4 z5 z6 z7 z8 z9 : Int) : List XV := [xI H, xI W, xR (26, f, 0), xR (25, f, 0), xR (25, f, 1), xR (26, f, 1), xR (26, f, 2), xR (26, f, 3), xR (26, f, 4), xI z0, xI z1, xI z2, xI z3, xI z4, xI z5, xI z6, xI z7, xI z8, xI z9, xR oR]
/-- what is read of a floor: b lies on it -/
def flR (σ : MS) (f : Int) (H W : Nat) (b : Int → Int) (G : GH) : Prop := (∃ u m l rg, off G u m l rg) ∧ Rkin σ G ∧ (∃ z0 z1 z2 z3 z4 z5 z6 z7 z8 z9, G (fO f) = some (xob 8 (fob f H W z0 z1 z2 z3 z4 z5 z6 z7 z8 z9))) ∧ fbd G f 0 10 0 H W (isB σ f) ∧ fbd G f 1 10 0 H W (fun i j => lyB σ f b i j - 1)
def nbI (i e : Int) : Int := i + (if e = 0 then -1 else if e = 2 then 1 else 0)
def nbJ (j e : Int) : Int := j + (if e = 1 then 1 else if e = 3 then -1 else 0)
def mtc (σ : MS) (f : Int) (b : Int → Int) (i j e c : Int) : Prop := lyB σ f b (nbI i e) (nbJ j e) = 0 ∨ col (σ.2 0 (kOf (lyB σ f b (nbI i e) (nbJ j e)))) (mOf (lyB σ f b (nbI i e) (nbJ j e))) ((e + 2) % 4) = c
theorem lyB_r {σ : MS} {f i j : Int} {b : Int → Int} (hK : kok σ) (hF : fo1 σ) (hf : 0 ≤ f ∧ f < σ.1 40) (hb : bok σ f b) : 0 ≤ lyB σ f b i j ∧ lyB σ f b i j ≤ 8 * σ.1 5 := by
  have hK1 := hK.1
  obtain ⟨hR, hC, ht, -⟩ := hF.2 f hf.1 hf.2
  unfold lyB
  split
  · rename_i h
    have := ht (8 * i + j) (by omega) (by omega)
    rw [← Int.add_assoc] at this
    split
    · omega
    · split
      · omega
      · exact hb (8 * i + j) (by omega) (by omega) (by omega)
  · omega
theorem kOf_s {d : Int} (h : 1 ≤ d ∧ d ≤ 320) : kOf d = (d - 1) / 8 ∧ mOf d = (d - 1) % 8 := by
  unfold kOf mOf
  omega
theorem mlB_mtc {σ : MS} {f i j k m : Int} {b : Int → Int} (hj : 0 ≤ j ∧ j < 8) (hk : 0 ≤ k ∧ k < 40) (hm : 0 ≤ m ∧ m < 8) : mlB σ f b (8 * i + j) (8 * k + m + 1) ↔ ∀ e, 0 ≤ e → e < 4 → mtc σ f b i j e (col (σ.2 0 k) m e) := by
  have e1 : (8 * i + j) / 8 = i := by omega
  have e2 : (8 * i + j) % 8 = j := by omega
  obtain ⟨k1, k2⟩ := kOf_s (d := 8 * k + m + 1) (by omega)
  have k1 : kOf (8 * k + m + 1) = k := by omega
  have k2 : mOf (8 * k + m + 1) = m := by omega
  have hn : 8 * k + m + 1 ≠ 0 := by omega
  unfold mlB
  rw [e1, e2]
  have one : ∀ e y x, nbI i e = y → nbJ j e = x → (ftt σ (8 * k + m + 1) (lyB σ f b y x) e ↔ mtc σ f b i j e (col (σ.2 0 k) m e)) := by
    intro e y x hy hx
    unfold ftt mtc
    rw [k1, k2, hy, hx]
    constructor
    · rintro (z | z | z)
      · exact absurd z hn
      · exact Or.inl z
      · exact Or.inr z.symm
    · rintro (z | z)
      · exact Or.inr (Or.inl z)
      · exact Or.inr (Or.inr z.symm)
  rw [one 0 (i - 1) j (by unfold nbI; rw [if_pos rfl]; omega) (by unfold nbJ; rw [if_neg (by decide), if_neg (by decide)]; omega), one 1 i (j + 1) (by unfold nbI; rw [if_neg (by decide), if_neg (by decide)]; omega) (by unfold nbJ; rw [if_pos rfl]), one 2 (i + 1) j (by unfold nbI; rw [if_neg (by decide), if_pos rfl]) (by unfold nbJ; rw [if_neg (by decide), if_neg (by decide)]; omega), one 3 i (j - 1) (by unfold nbI; rw [if_neg (by decide), if_neg (by decide)]; omega) (by unfold nbJ; rw [if_neg (by decide), if_pos rfl]; omega)]
  constructor
  · rintro ⟨a, b', c, d'⟩ e e0 e4
    have h4 : e = 0 ∨ e = 1 ∨ e = 2 ∨ e = 3 := by omega
    rcases h4 with rfl | rfl | rfl | rfl
    · exact a
    · exact b'
    · exact c
    · exact d'
  · intro h
    exact ⟨h 0 (by omega) (by omega), h 1 (by omega) (by omega), h 2 (by omega) (by omega), h 3 (by omega) (by omega)⟩
section
variable {d : Nat} {K : Option XV → GH → Prop} {G : GH} {bc bs : Nat} {σ : MS} {f : Int} {H W : Nat} {b : Int → Int}
theorem c_X10_meets {i j e c : Int} (hS : flR σ f H W b G) (hK : kok σ) (hF : fo1 σ) (hf : 0 ≤ f ∧ f < σ.1 40) (eH : (H : Int) = σ.2 35 f) (eW : (W : Int) = σ.2 36 f) (hb : bok σ f b) (hi : 0 ≤ i ∧ i < 8) (hj : 0 ≤ j ∧ j < 8) (he : 0 ≤ e ∧ e < 4) (h1 : mtc σ f b i j e c → K (some (xI 1)) G) (h0 : ¬ mtc σ f b i j e c → K (some (xI 0)) G) : tvW mX10_meets (d + 3) K 0 [some (xR (fO f)), some (xI i), some (xI j), some (xI e), some (xI c), none, none] [] G bc bs := by
  obtain ⟨⟨u, ma, li, rg, hof⟩, hkin, ⟨z0, z1, z2, z3, z4, z5, z6, z7, z8, z9, hO⟩, -, hly⟩ := hS
  unfold off at hof
  have hk1 := hK.1
  have hly6 := hly.1
  obtain ⟨lf, hlO⟩ := lst_o hkin.1
  unfold mtc at h1 h0
  have main : ∀ y x, y = nbI i e → x = nbJ j e → tvW mX10_meets (d + 3) K 45 [some (xR (fO f)), some (xI i), some (xI j), some (xI e), some (xI c), some (xI y), some (xI x)] [] G bc bs := by
    intro y x ey ex
    rw [← ey, ← ex] at h1 h0
    have hr := lyB_r (i := y) (j := x) hK hF hf hb
    refine w_aload_n (pc' := 46) dX10_meets_45 rfl rfl ?_
    refine w_iload (pc' := 48) dX10_meets_46 rfl rfl ?_
    refine w_iload (pc' := 50) dX10_meets_48 rfl rfl ?_
    -- at 50: .invokevirtual 48
    refine w_callV2 (pc' := 53) (mc := 0) (ms := 0) dX10_meets_50 rfl tX10_has q950 rfl rfl qs25 q948 hO rfl (Nat.le_of_ble_eq_true rfl) (Nat.le_of_ble_eq_true rfl) ?_
    refine c_X10_has hO (fun q => w_p1 ?_) (fun q => w_p1 ?_)
    · obtain ⟨⟨y0, y1⟩, x0, x1⟩ := q
      obtain ⟨gl, gl1, gl2⟩ := hly.2 y y0 y1
      have gl2 := gl2 x x0 x1
      simp only [] at gl2
      generalize hD : lyB σ f b y x = D at *
      refine w_if_eq (pc' := 56) (tgt := 69) dX10_meets_53 rfl rfl (fun h_ => False.elim (by first | omega | (simp (decide := true) only [au_1, nu_2, au_lt, nu_lt, aw_e, nw_e, au_s, au_n, nu_s, nu_n, au_au, nu_nu, au_nu] at h_; omega))) (fun h_ => ?_)
      refine w_aload_n (pc' := 57) dX10_meets_56 rfl rfl ?_
      refine w_get 5 (pc' := 60) dX10_meets_57 rfl fX10_34_8 hO rfl ?_
      refine w_iload (pc' := 62) dX10_meets_60 rfl rfl ?_
      refine w_aaldM (pc' := 63) dX10_meets_62 rfl hly6 y0 y1 ?_
      refine w_iload (pc' := 65) dX10_meets_63 rfl rfl ?_
      refine w_iald (pc' := 66) dX10_meets_65 rfl gl1 x0 x1 ?_
      -- at 66: .ifCond .ge 5
      rw [gl2]
      by_cases z : D = 0
      · refine w_if_ge (pc' := 69) (tgt := 71) dX10_meets_66 rfl rfl (fun h_ => False.elim (by first | omega | (simp (decide := true) only [au_1, nu_2, au_lt, nu_lt, aw_e, nw_e, au_s, au_n, nu_s, nu_n, au_au, nu_nu, au_nu] at h_; omega))) (fun h_ => ?_)
        refine w_iconst (pc' := 70) dX10_meets_69 rfl (by decide) ?_
        -- at 70: .ireturn
        refine w_zreturn dX10_meets_70 rfl (by first | exact Or.inl rfl | exact Or.inr rfl | omega) ?_
        exact h1 (Or.inl z)
      · obtain ⟨ek, em⟩ := kOf_s (d := D) (by omega)
        rw [ek, em] at h1 h0
        have hkk : 0 ≤ (D - 1) / 8 ∧ (D - 1) / 8 < σ.1 5 := by omega
        have tl := hkin.2 _ hkk.1 hkk.2
        have hmm : 0 ≤ (D - 1) % 8 ∧ (D - 1) % 8 < 8 := by omega
        have hee : 0 ≤ (e + 2) % 4 ∧ (e + 2) % 4 < 4 := by omega
        refine w_if_ge (pc' := 69) (tgt := 71) dX10_meets_66 rfl rfl (fun h_ => ?_) (fun h_ => False.elim (by first | omega | (simp (decide := true) only [au_1, nu_2, au_lt, nu_lt, aw_e, nw_e, au_s, au_n, nu_s, nu_n, au_au, nu_nu, au_nu] at h_; omega)))
        refine w_aload_n (pc' := 72) dX10_meets_71 rfl rfl ?_
        refine w_get 19 (pc' := 75) dX10_meets_72 rfl fX10_3_8 hO rfl ?_
        refine w_get 0 (pc' := 78) dX10_meets_75 rfl fX10_52_0 hof rfl ?_
        refine w_aload_n (pc' := 79) dX10_meets_78 rfl rfl ?_
        refine w_get 5 (pc' := 82) dX10_meets_79 rfl fX10_34_8 hO rfl ?_
        refine w_iload (pc' := 84) dX10_meets_82 rfl rfl ?_
        refine w_aaldM (pc' := 85) dX10_meets_84 rfl hly6 y0 y1 ?_
        refine w_iload (pc' := 87) dX10_meets_85 rfl rfl ?_
        refine w_iald (pc' := 88) dX10_meets_87 rfl gl1 x0 x1 ?_
        refine w_iconst (pc' := 89) dX10_meets_88 rfl (by decide) ?_
        -- at 89: .ishr
        rw [gl2]
        refine w_ishr (pc' := 90) dX10_meets_89 rfl ?_
        -- at 90: .invokevirtual 56
        rw [bShr_3 ⟨by omega, by omega⟩]
        refine w_callV1 (pc' := 93) (mc := 0) (ms := 0) dX10_meets_90 rfl tJ2_get q211 rfl rfl q212 q952 hlO rfl (Nat.le_of_ble_eq_true rfl) (Nat.le_of_ble_eq_true rfl) ?_
        refine c_J2_get hkin.1 ⟨hkk.1, hkk.2⟩ ?_
        refine w_p1 ?_
        refine w_cast (pc' := 96) dX10_meets_93 rfl tl.1 rfl q953 ?_
        refine w_aload_n (pc' := 97) dX10_meets_96 rfl rfl ?_
        refine w_get 5 (pc' := 100) dX10_meets_97 rfl fX10_34_8 hO rfl ?_
        refine w_iload (pc' := 102) dX10_meets_100 rfl rfl ?_
        refine w_aaldM (pc' := 103) dX10_meets_102 rfl hly6 y0 y1 ?_
        refine w_iload (pc' := 105) dX10_meets_103 rfl rfl ?_
        refine w_iald (pc' := 106) dX10_meets_105 rfl gl1 x0 x1 ?_
        -- at 106: .bipush 7
        rw [gl2]
        refine w_bipush (pc' := 108) dX10_meets_106 rfl (by decide +kernel) (by decide) ?_
        refine w_iand (pc' := 109) dX10_meets_108 rfl ?_
        -- at 109: .iload_n 3
        rw [bAnd_7]
        refine w_iload_n (pc' := 110) dX10_meets_109 rfl rfl ?_
        refine w_iconst (pc' := 111) dX10_meets_110 rfl (by decide) ?_
        refine w_iadd (pc' := 112) dX10_meets_111 rfl ⟨by first | omega | (simp (decide := true) only [au_1, nu_2, au_lt, nu_lt, aw_e, nw_e, au_s, au_n, nu_s, nu_n, au_au, nu_nu, au_nu]; omega), by first | omega | (simp (decide := true) only [au_1, nu_2, au_lt, nu_lt, aw_e, nw_e, au_s, au_n, nu_s, nu_n, au_au, nu_nu, au_nu]; omega)⟩ ?_
        refine w_iconst (pc' := 113) dX10_meets_112 rfl (by decide) ?_
        refine w_iand (pc' := 114) dX10_meets_113 rfl ?_
        -- at 114: .invokevirtual 64
        rw [bAnd_3]
        refine w_callV2 (pc' := 117) (mc := 0) (ms := 0) dX10_meets_114 rfl tX2_colour q334 rfl rfl q335 q990 tl.1 rfl (Nat.le_of_ble_eq_true rfl) (Nat.le_of_ble_eq_true rfl) ?_
        refine c_X2_colour tl hmm hee ?_
        refine w_p1 ?_
        refine w_iload (pc' := 119) dX10_meets_117 rfl rfl ?_
        -- at 119: .if_icmp .ne 7
        refine w_icmp_ne (pc' := 122) (tgt := 126) dX10_meets_119 rfl rfl (fun q => ?_) (fun q => ?_)
        · refine w_iconst (pc' := 127) dX10_meets_126 rfl (by decide) ?_
          -- at 127: .ireturn
          refine w_zreturn dX10_meets_127 rfl (by first | exact Or.inl rfl | exact Or.inr rfl | omega) ?_
          exact h0 (fun y => y.elim z q)
        · refine w_iconst (pc' := 123) dX10_meets_122 rfl (by decide) ?_
          refine w_goto (tgt := 127) dX10_meets_123 rfl ?_
          -- at 127: .ireturn
          refine w_zreturn dX10_meets_127 rfl (by first | exact Or.inl rfl | exact Or.inr rfl | omega) ?_
          exact h1 (Or.inr q)
    · have hD : lyB σ f b y x = 0 := by
        unfold lyB
        rw [if_neg (by rw [← eH, ← eW]; exact q)]
      refine w_if_eq (pc' := 56) (tgt := 69) dX10_meets_53 rfl rfl (fun h_ => ?_) (fun h_ => False.elim (by first | omega | (simp (decide := true) only [au_1, nu_2, au_lt, nu_lt, aw_e, nw_e, au_s, au_n, nu_s, nu_n, au_au, nu_nu, au_nu] at h_; omega)))
      refine w_iconst (pc' := 70) dX10_meets_69 rfl (by decide) ?_
      -- at 70: .ireturn
      refine w_zreturn dX10_meets_70 rfl (by first | exact Or.inl rfl | exact Or.inr rfl | omega) ?_
      exact h1 (Or.inl hD)
  have two : ∀ y, y = nbI i e → tvW mX10_meets (d + 3) K 22 [some (xR (fO f)), some (xI i), some (xI j), some (xI e), some (xI c), some (xI y), none] [] G bc bs := by
    intro y ey
    unfold nbJ at main
    refine w_iload_n (pc' := 23) dX10_meets_22 rfl rfl ?_
    refine w_iload_n (pc' := 24) dX10_meets_23 rfl rfl ?_
    refine w_iconst (pc' := 25) dX10_meets_24 rfl (by decide) ?_
    -- at 25: .if_icmp .ne 7
    refine w_icmp_ne (pc' := 28) (tgt := 32) dX10_meets_25 rfl rfl (fun q1 => ?_) (fun q1 => ?_)
    · refine w_iload_n (pc' := 33) dX10_meets_32 rfl rfl ?_
      refine w_iconst (pc' := 34) dX10_meets_33 rfl (by decide) ?_
      -- at 34: .if_icmp .ne 7
      refine w_icmp_ne (pc' := 37) (tgt := 41) dX10_meets_34 rfl rfl (fun q3 => ?_) (fun q3 => ?_)
      · refine w_iconst (pc' := 42) dX10_meets_41 rfl (by decide) ?_
        refine w_iadd (pc' := 43) dX10_meets_42 rfl ⟨by first | omega | (simp (decide := true) only [au_1, nu_2, au_lt, nu_lt, aw_e, nw_e, au_s, au_n, nu_s, nu_n, au_au, nu_nu, au_nu]; omega), by first | omega | (simp (decide := true) only [au_1, nu_2, au_lt, nu_lt, aw_e, nw_e, au_s, au_n, nu_s, nu_n, au_au, nu_nu, au_nu]; omega)⟩ ?_
        refine w_ist6 (pc' := 45) dX10_meets_43 rfl rfl ?_
        -- at 45: .aload_n 0
        exact main _ _ ey (by rw [if_neg q1, if_neg q3])
      · refine w_iconst (pc' := 38) dX10_meets_37 rfl (by decide) ?_
        refine w_goto (tgt := 42) dX10_meets_38 rfl ?_
        refine w_iadd (pc' := 43) dX10_meets_42 rfl ⟨by first | omega | (simp (decide := true) only [au_1, nu_2, au_lt, nu_lt, aw_e, nw_e, au_s, au_n, nu_s, nu_n, au_au, nu_nu, au_nu]; omega), by first | omega | (simp (decide := true) only [au_1, nu_2, au_lt, nu_lt, aw_e, nw_e, au_s, au_n, nu_s, nu_n, au_au, nu_nu, au_nu]; omega)⟩ ?_
        refine w_ist6 (pc' := 45) dX10_meets_43 rfl rfl ?_
        -- at 45: .aload_n 0
        exact main _ _ ey (by rw [if_neg q1, if_pos q3])
    · refine w_iconst (pc' := 29) dX10_meets_28 rfl (by decide) ?_
      refine w_goto (tgt := 42) dX10_meets_29 rfl ?_
      refine w_iadd (pc' := 43) dX10_meets_42 rfl ⟨by first | omega | (simp (decide := true) only [au_1, nu_2, au_lt, nu_lt, aw_e, nw_e, au_s, au_n, nu_s, nu_n, au_au, nu_nu, au_nu]; omega), by first | omega | (simp (decide := true) only [au_1, nu_2, au_lt, nu_lt, aw_e, nw_e, au_s, au_n, nu_s, nu_n, au_au, nu_nu, au_nu]; omega)⟩ ?_
      refine w_ist6 (pc' := 45) dX10_meets_43 rfl rfl ?_
      -- at 45: .aload_n 0
      exact main _ _ ey (by rw [if_pos q1])
  unfold nbI at two
  refine w_iload_n (pc' := 1) dX10_meets_0 rfl rfl ?_
  refine w_iload_n (pc' := 2) dX10_meets_1 rfl rfl ?_
  -- at 2: .ifCond .ne 7
  refine w_if_ne (pc' := 5) (tgt := 9) dX10_meets_2 rfl rfl (fun q0 => ?_) (fun q0 => ?_)
  · refine w_iload_n (pc' := 10) dX10_meets_9 rfl rfl ?_
    refine w_iconst (pc' := 11) dX10_meets_10 rfl (by decide) ?_
    -- at 11: .if_icmp .ne 7
    refine w_icmp_ne (pc' := 14) (tgt := 18) dX10_meets_11 rfl rfl (fun q2 => ?_) (fun q2 => ?_)
    · refine w_iconst (pc' := 19) dX10_meets_18 rfl (by decide) ?_
      refine w_iadd (pc' := 20) dX10_meets_19 rfl ⟨by first | omega | (simp (decide := true) only [au_1, nu_2, au_lt, nu_lt, aw_e, nw_e, au_s, au_n, nu_s, nu_n, au_au, nu_nu, au_nu]; omega), by first | omega | (simp (decide := true) only [au_1, nu_2, au_lt, nu_lt, aw_e, nw_e, au_s, au_n, nu_s, nu_n, au_au, nu_nu, au_nu]; omega)⟩ ?_
      refine w_ist5 (pc' := 22) dX10_meets_20 rfl rfl ?_
      -- at 22: .iload_n 2
      exact two _ (by rw [if_neg q0, if_neg q2])
    · refine w_iconst (pc' := 15) dX10_meets_14 rfl (by decide) ?_
      refine w_goto (tgt := 19) dX10_meets_15 rfl ?_
      refine w_iadd (pc' := 20) dX10_meets_19 rfl ⟨by first | omega | (simp (decide := true) only [au_1, nu_2, au_lt, nu_lt, aw_e, nw_e, au_s, au_n, nu_s, nu_n, au_au, nu_nu, au_nu]; omega), by first | omega | (simp (decide := true) only [au_1, nu_2, au_lt, nu_lt, aw_e, nw_e, au_s, au_n, nu_s, nu_n, au_au, nu_nu, au_nu]; omega)⟩ ?_
      refine w_ist5 (pc' := 22) dX10_meets_20 rfl rfl ?_
      -- at 22: .iload_n 2
      exact two _ (by rw [if_neg q0, if_pos q2])
  · refine w_iconst (pc' := 6) dX10_meets_5 rfl (by decide) ?_
    refine w_goto (tgt := 19) dX10_meets_6 rfl ?_
    refine w_iadd (pc' := 20) dX10_meets_19 rfl ⟨by first | omega | (simp (decide := true) only [au_1, nu_2, au_lt, nu_lt, aw_e, nw_e, au_s, au_n, nu_s, nu_n, au_au, nu_nu, au_nu]; omega), by first | omega | (simp (decide := true) only [au_1, nu_2, au_lt, nu_lt, aw_e, nw_e, au_s, au_n, nu_s, nu_n, au_au, nu_nu, au_nu]; omega)⟩ ?_
    refine w_ist5 (pc' := 22) dX10_meets_20 rfl rfl ?_
    -- at 22: .iload_n 2
    exact two _ (by rw [if_pos q0])
theorem c_X10_fits {i j k m : Int} (hS : flR σ f H W b G) (hK : kok σ) (hF : fo1 σ) (hf : 0 ≤ f ∧ f < σ.1 40) (eH : (H : Int) = σ.2 35 f) (eW : (W : Int) = σ.2 36 f) (hb : bok σ f b) (hi : 0 ≤ i ∧ i < 8) (hj : 0 ≤ j ∧ j < 8) (hk : 0 ≤ k ∧ k < σ.1 5) (hm : 0 ≤ m ∧ m < 8) (h1 : mlB σ f b (8 * i + j) (8 * k + m + 1) → K (some (xI 1)) G) (h0 : ¬ mlB σ f b (8 * i + j) (8 * k + m + 1) → K (some (xI 0)) G) : tvW mX10_fits (d + 4) K 0 [some (xR (fO f)), some (xI i), some (xI j), some (xI k), some (xI m), none, none, none] [] G bc bs := by
  have hk1 := hK.1
  rw [mlB_mtc hj ⟨hk.1, by omega⟩ hm] at h1 h0
  obtain ⟨⟨u, ma, li, rg, hof⟩, hkin, ⟨z0, z1, z2, z3, z4, z5, z6, z7, z8, z9, hO⟩, -⟩ := id hS
  unfold off at hof
  obtain ⟨lf, hlO⟩ := lst_o hkin.1
  have tl := hkin.2 k hk.1 hk.2
  refine w_aload_n (pc' := 1) dX10_fits_0 rfl rfl ?_
  refine w_get 19 (pc' := 4) dX10_fits_1 rfl fX10_3_8 hO rfl ?_
  refine w_get 0 (pc' := 7) dX10_fits_4 rfl fX10_52_0 hof rfl ?_
  refine w_iload_n (pc' := 8) dX10_fits_7 rfl rfl ?_
  -- at 8: .invokevirtual 56
  refine w_callV1 (pc' := 11) (mc := 0) (ms := 0) dX10_fits_8 rfl tJ2_get q211 rfl rfl q212 q952 hlO rfl (Nat.le_of_ble_eq_true rfl) (Nat.le_of_ble_eq_true rfl) ?_
  refine c_J2_get hkin.1 hk ?_
  refine w_p1 ?_
  refine w_cast (pc' := 14) dX10_fits_11 rfl tl.1 rfl q953 ?_
  refine w_ast5 (pc' := 16) dX10_fits_14 rfl rfl ?_
  refine w_iconst (pc' := 17) dX10_fits_16 rfl (by decide) ?_
  refine w_ist6 (pc' := 19) dX10_fits_17 rfl rfl ?_
  refine w_iconst (pc' := 20) dX10_fits_19 rfl (by decide) ?_
  refine w_ist7 (pc' := 22) dX10_fits_20 rfl rfl ?_
  -- at 22: .iload 7
  refine up (T := fun e => 0 ≤ e → (∀ e', 0 ≤ e' → e' < e → mtc σ f b i j e' (col (σ.2 0 k) m e')) → tvW mX10_fits (d + 4) K 22 [some (xR (fO f)), some (xI i), some (xI j), some (xI k), some (xI m), some (xR (kO k)), some (xI 1), some (xI e)] [] G bc bs) 4 (by omega) ?_ ?_ (Int.le_refl _) (fun e' a1 a2 => by omega)
  · intro _ hall
    refine w_iload (pc' := 24) dX10_fits_22 rfl rfl ?_
    refine w_iconst (pc' := 25) dX10_fits_24 rfl (by decide) ?_
    -- at 25: .if_icmp .ge 33
    refine w_icmp_ge (pc' := 28) (tgt := 58) dX10_fits_25 rfl rfl (fun h_ => ?_) (fun h_ => False.elim (by first | omega | (simp (decide := true) only [au_1, nu_2, au_lt, nu_lt, aw_e, nw_e, au_s, au_n, nu_s, nu_n, au_au, nu_nu, au_nu] at h_; omega)))
    refine w_iload (pc' := 60) dX10_fits_58 rfl rfl ?_
    -- at 60: .ireturn
    refine w_zreturn dX10_fits_60 rfl (by first | exact Or.inl rfl | exact Or.inr rfl | omega) ?_
    exact h1 hall
  · intro e e0 e1 ih _ hall
    refine w_iload (pc' := 24) dX10_fits_22 rfl rfl ?_
    refine w_iconst (pc' := 25) dX10_fits_24 rfl (by decide) ?_
    -- at 25: .if_icmp .ge 33
    refine w_icmp_ge (pc' := 28) (tgt := 58) dX10_fits_25 rfl rfl (fun h_ => False.elim (by first | omega | (simp (decide := true) only [au_1, nu_2, au_lt, nu_lt, aw_e, nw_e, au_s, au_n, nu_s, nu_n, au_au, nu_nu, au_nu] at h_; omega))) (fun h_ => ?_)
    refine w_iload (pc' := 30) dX10_fits_28 rfl rfl ?_
    -- at 30: .ifCond .eq 28
    refine w_if_eq (pc' := 33) (tgt := 58) dX10_fits_30 rfl rfl (fun h_ => False.elim (by first | omega | (simp (decide := true) only [au_1, nu_2, au_lt, nu_lt, aw_e, nw_e, au_s, au_n, nu_s, nu_n, au_au, nu_nu, au_nu] at h_; omega))) (fun h_ => ?_)
    refine w_aload_n (pc' := 34) dX10_fits_33 rfl rfl ?_
    refine w_iload_n (pc' := 35) dX10_fits_34 rfl rfl ?_
    refine w_iload_n (pc' := 36) dX10_fits_35 rfl rfl ?_
    refine w_iload (pc' := 38) dX10_fits_36 rfl rfl ?_
    refine w_aload (pc' := 40) dX10_fits_38 rfl rfl ?_
    refine w_iload (pc' := 42) dX10_fits_40 rfl rfl ?_
    refine w_iload (pc' := 44) dX10_fits_42 rfl rfl ?_
    -- at 44: .invokevirtual 64
    refine w_callV2 (pc' := 47) (mc := 0) (ms := 0) dX10_fits_44 rfl tX2_colour q334 rfl rfl q335 q990 tl.1 rfl (Nat.le_of_ble_eq_true rfl) (Nat.le_of_ble_eq_true rfl) ?_
    refine c_X2_colour tl hm ⟨e0, e1⟩ ?_
    refine w_p1 ?_
    refine w_callV4 (pc' := 50) (mc := 0) (ms := 0) dX10_fits_47 rfl tX10_meets q993 rfl rfl qs31 q991 hO rfl (Nat.le_of_ble_eq_true rfl) (Nat.le_of_ble_eq_true rfl) ?_
    refine c_X10_meets hS hK hF hf eH eW hb hi hj ⟨e0, e1⟩ (fun q => w_p1 ?_) (fun q => w_p1 ?_)
    · refine w_ist6 (pc' := 52) dX10_fits_50 rfl rfl ?_
      refine w_inc7 (pc' := 55) dX10_fits_52 rfl rfl ⟨by first | omega | (simp (decide := true) only [au_1, nu_2, au_lt, nu_lt, aw_e, nw_e, au_s, au_n, nu_s, nu_n, au_au, nu_nu, au_nu]; omega), by first | omega | (simp (decide := true) only [au_1, nu_2, au_lt, nu_lt, aw_e, nw_e, au_s, au_n, nu_s, nu_n, au_au, nu_nu, au_nu]; omega)⟩ ?_
      refine w_goto (tgt := 22) dX10_fits_55 rfl ?_
      -- at 22: .iload 7
      refine ih (by omega) (fun e' a1 a2 => ?_)
      by_cases z : e' = e
      · rw [z]
        exact q
      · exact hall e' a1 (by omega)
    · have bad := h0 (fun z => q (z e e0 e1))
      refine w_ist6 (pc' := 52) dX10_fits_50 rfl rfl ?_
      refine w_inc7 (pc' := 55) dX10_fits_52 rfl rfl ⟨by first | omega | (simp (decide := true) only [au_1, nu_2, au_lt, nu_lt, aw_e, nw_e, au_s, au_n, nu_s, nu_n, au_au, nu_nu, au_nu]; omega), by first | omega | (simp (decide := true) only [au_1, nu_2, au_lt, nu_lt, aw_e, nw_e, au_s, au_n, nu_s, nu_n, au_au, nu_nu, au_nu]; omega)⟩ ?_
      refine w_goto (tgt := 22) dX10_fits_55 rfl ?_
      -- at 22: .iload 7
      refine w_iload (pc' := 24) dX10_fits_22 rfl rfl ?_
      refine w_iconst (pc' := 25) dX10_fits_24 rfl (by decide) ?_
      -- at 25: .if_icmp .ge 33
      refine w_icmp_ge (pc' := 28) (tgt := 58) dX10_fits_25 rfl rfl (fun g => ?_) (fun g => ?_)
      · refine w_iload (pc' := 60) dX10_fits_58 rfl rfl ?_
        -- at 60: .ireturn
        refine w_zreturn dX10_fits_60 rfl (by first | exact Or.inl rfl | exact Or.inr rfl | omega) ?_
        exact bad
      · refine w_iload (pc' := 30) dX10_fits_28 rfl rfl ?_
        -- at 30: .ifCond .eq 28
        refine w_if_eq (pc' := 33) (tgt := 58) dX10_fits_30 rfl rfl (fun h_ => ?_) (fun h_ => False.elim (by first | omega | (simp (decide := true) only [au_1, nu_2, au_lt, nu_lt, aw_e, nw_e, au_s, au_n, nu_s, nu_n, au_au, nu_nu, au_nu] at h_; omega)))
        refine w_iload (pc' := 60) dX10_fits_58 rfl rfl ?_
        -- at 60: .ireturn
        refine w_zreturn dX10_fits_60 rfl (by first | exact Or.inl rfl | exact Or.inr rfl | omega) ?_
        exact bad
theorem c_X10_fitting {i j en : Int} {l g : Int → Int} (hS : flR σ f H W b G) (hK : kok σ) (hF : fo1 σ) (hf : 0 ≤ f ∧ f < σ.1 40) (eH : (H : Int) = σ.2 35 f) (eW : (W : Int) = σ.2 36 f) (hb : bok σ f b) (hl : lok σ l) (hg : G (25, f, 1) = some (xar 0 40 g)) (hgl : ∀ k, 0 ≤ k → k < σ.1 5 → g k = l k) (hi : 0 ≤ i ∧ i < 8) (hj : 0 ≤ j ∧ j < 8) (h : ∀ r, (r = nfB σ f b l (8 * i + j) ∨ en ≤ r ∧ r ≤ nfB σ f b l (8 * i + j)) → K (some (xI r)) G) : tvW mX10_fitting (d + 5) K 0 [some (xR (fO f)), some (xI i), some (xI j), some (xI en), none, none, none] [] G bc bs := by
  have hk1 := hK.1
  unfold nfB at h
  obtain ⟨⟨u, ma, li, rg, hof⟩, hkin, ⟨z0, z1, z2, z3, z4, z5, z6, z7, z8, z9, hO⟩, -⟩ := id hS
  unfold off at hof
  obtain ⟨lf, hlO⟩ := lst_o hkin.1
  have hcn : ∃ C : Int → Int, C = fun n => sm (fun n => b1 (cdB σ f b l (8 * i + j) n)) n := ⟨_, rfl⟩
  obtain ⟨C, hC⟩ := hcn
  have h : ∀ r, (r = C (8 * σ.1 5) ∨ en ≤ r ∧ r ≤ C (8 * σ.1 5)) → K (some (xI r)) G := by rw [hC]; exact h
  have Cr : ∀ n, 0 ≤ n → 0 ≤ C n ∧ C n ≤ n := by
    intro n n0
    have := sm_r (f := fun n => b1 (cdB σ f b l (8 * i + j) n)) 1 n0 (fun _ _ _ => b1_r _)
    rw [hC]
    simp only []
    omega
  have Cs : ∀ n, 0 ≤ n → C (n + 1) = C n + b1 (cdB σ f b l (8 * i + j) n) := by
    intro n n0
    rw [hC]
    exact sm_s n0
  have Cm : ∀ (n : Int) (k : Nat), 0 ≤ n → C n ≤ C (n + k) := by
    intro n k n0
    induction k with
    | zero => rw [show n + ((0 : Nat) : Int) = n by omega]; exact Int.le_refl _
    | succ k ih =>
      have := Cs (n + k) (by omega)
      have := (b1_r (cdB σ f b l (8 * i + j) (n + k))).1
      rw [show n + ((k + 1 : Nat) : Int) = n + k + 1 by omega]
      omega
  have C0 : C 0 = 0 := by rw [hC]; exact sm_0
  refine w_iconst (pc' := 1) dX10_fitting_0 rfl (by decide) ?_
  refine w_ist4 (pc' := 3) dX10_fitting_1 rfl rfl ?_
  refine w_iconst (pc' := 4) dX10_fitting_3 rfl (by decide) ?_
  refine w_ist5 (pc' := 6) dX10_fitting_4 rfl rfl ?_
  -- at 6: .iload 5
  refine w_L (L' := [some (xR (fO f)), some (xI i), some (xI j), some (xI en), some (xI (C (8 * 0))), some (xI 0), none]) (by rw [Int.mul_zero, C0]) ?_
  refine up (T := fun k => 0 ≤ k → ∀ v6 : Option XV, tvW mX10_fitting (d + 5) K 6 [some (xR (fO f)), some (xI i), some (xI j), some (xI en), some (xI (C (8 * k))), some (xI k), v6] [] G bc bs) (a := 0) (σ.1 5) hk1.1 ?_ ?_ (Int.le_refl _) none
  · intro _ v6
    refine w_iload (pc' := 8) dX10_fitting_6 rfl rfl ?_
    refine w_aload_n (pc' := 9) dX10_fitting_8 rfl rfl ?_
    refine w_get 19 (pc' := 12) dX10_fitting_9 rfl fX10_3_8 hO rfl ?_
    refine w_get 0 (pc' := 15) dX10_fitting_12 rfl fX10_52_0 hof rfl ?_
    -- at 15: .invokevirtual 72
    refine w_callV0 (pc' := 18) (mc := 0) (ms := 0) dX10_fitting_15 rfl tJ2_size q207 rfl rfl q208 q980 hlO rfl (Nat.le_of_ble_eq_true rfl) (Nat.le_of_ble_eq_true rfl) ?_
    refine c_J2_size hkin.1 ?_
    refine w_p1 ?_
    refine w_icmp_ge (pc' := 21) (tgt := 103) dX10_fitting_18 rfl rfl (fun h_ => ?_) (fun h_ => False.elim (by first | omega | (simp (decide := true) only [au_1, nu_2, au_lt, nu_lt, aw_e, nw_e, au_s, au_n, nu_s, nu_n, au_au, nu_nu, au_nu] at h_; omega)))
    refine w_iload (pc' := 105) dX10_fitting_103 rfl rfl ?_
    -- at 105: .ireturn
    refine w_ireturn dX10_fitting_105 rfl ?_
    exact h _ (Or.inl rfl)
  · intro k k0 k1 ih _ v6
    have hCk := Cr (8 * k) (by omega)
    have hmono := Cm (8 * k) (8 * σ.1 5 - 8 * k).toNat (by omega)
    rw [show 8 * k + (((8 * σ.1 5 - 8 * k).toNat : Nat) : Int) = 8 * σ.1 5 by omega] at hmono
    have hlk := hl k k0 k1
    have hgk := hgl k k0 k1
    have tl := hkin.2 k k0 k1
    obtain ⟨-, tT, -, -⟩ := hK.2 k k0 k1
    refine w_iload (pc' := 8) dX10_fitting_6 rfl rfl ?_
    refine w_aload_n (pc' := 9) dX10_fitting_8 rfl rfl ?_
    refine w_get 19 (pc' := 12) dX10_fitting_9 rfl fX10_3_8 hO rfl ?_
    refine w_get 0 (pc' := 15) dX10_fitting_12 rfl fX10_52_0 hof rfl ?_
    -- at 15: .invokevirtual 72
    refine w_callV0 (pc' := 18) (mc := 0) (ms := 0) dX10_fitting_15 rfl tJ2_size q207 rfl rfl q208 q980 hlO rfl (Nat.le_of_ble_eq_true rfl) (Nat.le_of_ble_eq_true rfl) ?_
    refine c_J2_size hkin.1 ?_
    refine w_p1 ?_
    refine w_icmp_ge (pc' := 21) (tgt := 103) dX10_fitting_18 rfl rfl (fun h_ => False.elim (by first | omega | (simp (decide := true) only [au_1, nu_2, au_lt, nu_lt, aw_e, nw_e, au_s, au_n, nu_s, nu_n, au_au, nu_nu, au_nu] at h_; omega))) (fun h_ => ?_)
    refine w_iload (pc' := 23) dX10_fitting_21 rfl rfl ?_
    refine w_iload_n (pc' := 24) dX10_fitting_23 rfl rfl ?_
    -- at 24: .if_icmp .ge 79
    refine w_icmp_ge (pc' := 27) (tgt := 103) dX10_fitting_24 rfl rfl (fun q => ?_) (fun q => ?_)
    · refine w_iload (pc' := 105) dX10_fitting_103 rfl rfl ?_
      -- at 105: .ireturn
      refine w_ireturn dX10_fitting_105 rfl ?_
      exact h _ (Or.inr ⟨q, hmono⟩)
    · refine w_aload_n (pc' := 28) dX10_fitting_27 rfl rfl ?_
      refine w_get 4 (pc' := 31) dX10_fitting_28 rfl fX10_19_8 hO rfl ?_
      refine w_iload (pc' := 33) dX10_fitting_31 rfl rfl ?_
      refine w_iald (pc' := 34) dX10_fitting_33 rfl hg k0 (by omega) ?_
      -- at 34: .ifCond .ne 6
      rw [hgk]
      by_cases z : l k = 0
      · have none_ : ∀ m : Nat, (m : Int) ≤ 8 → C (8 * k + m) = C (8 * k) := by
          intro m
          induction m with
          | zero => intro _; rw [show 8 * k + ((0 : Nat) : Int) = 8 * k by omega]
          | succ m ihm =>
            intro hm
            rw [show 8 * k + ((m + 1 : Nat) : Int) = 8 * k + m + 1 by omega, Cs _ (by omega), ihm (by omega), b1_f (fun y => ?_), Int.add_zero]
            have y1 := y.1
            rw [show (8 * k + (m : Int)) / 8 = k by omega] at y1
            omega
        have n8 := none_ 8 (by omega)
        rw [show 8 * k + ((8 : Nat) : Int) = 8 * (k + 1) by omega] at n8
        refine w_if_ne (pc' := 37) (tgt := 40) dX10_fitting_34 rfl rfl (fun h_ => False.elim (by first | omega | (simp (decide := true) only [au_1, nu_2, au_lt, nu_lt, aw_e, nw_e, au_s, au_n, nu_s, nu_n, au_au, nu_nu, au_nu] at h_; omega))) (fun h_ => ?_)
        refine w_goto (tgt := 97) dX10_fitting_37 rfl ?_
        refine w_inc5 (pc' := 100) dX10_fitting_97 rfl rfl ⟨by first | omega | (simp (decide := true) only [au_1, nu_2, au_lt, nu_lt, aw_e, nw_e, au_s, au_n, nu_s, nu_n, au_au, nu_nu, au_nu]; omega), by first | omega | (simp (decide := true) only [au_1, nu_2, au_lt, nu_lt, aw_e, nw_e, au_s, au_n, nu_s, nu_n, au_au, nu_nu, au_nu]; omega)⟩ ?_
        refine w_goto (tgt := 6) dX10_fitting_100 rfl ?_
        -- at 6: .iload 5
        rw [← n8]
        exact ih (by omega) _
      · refine w_if_ne (pc' := 37) (tgt := 40) dX10_fitting_34 rfl rfl (fun h_ => ?_) (fun h_ => False.elim (by first | omega | (simp (decide := true) only [au_1, nu_2, au_lt, nu_lt, aw_e, nw_e, au_s, au_n, nu_s, nu_n, au_au, nu_nu, au_nu] at h_; omega)))
        refine w_iconst (pc' := 41) dX10_fitting_40 rfl (by decide) ?_
        refine w_ist6 (pc' := 43) dX10_fitting_41 rfl rfl ?_
        -- at 43: .iload 6
        refine w_L (L' := [some (xR (fO f)), some (xI i), some (xI j), some (xI en), some (xI (C (8 * k + 0))), some (xI k), some (xI 0)]) (by rw [Int.add_zero]) ?_
        refine up (T := fun m => 0 ≤ m → tvW mX10_fitting (d + 5) K 43 [some (xR (fO f)), some (xI i), some (xI j), some (xI en), some (xI (C (8 * k + m))), some (xI k), some (xI m)] [] G bc bs) (a := 0) 8 (by omega) ?_ ?_ (Int.le_refl _)
        · intro _
          refine w_iload (pc' := 45) dX10_fitting_43 rfl rfl ?_
          refine w_bipush (pc' := 47) dX10_fitting_45 rfl (by decide +kernel) (by decide) ?_
          -- at 47: .if_icmp .ge 50
          refine w_icmp_ge (pc' := 50) (tgt := 97) dX10_fitting_47 rfl rfl (fun h_ => ?_) (fun h_ => False.elim (by first | omega | (simp (decide := true) only [au_1, nu_2, au_lt, nu_lt, aw_e, nw_e, au_s, au_n, nu_s, nu_n, au_au, nu_nu, au_nu] at h_; omega)))
          refine w_inc5 (pc' := 100) dX10_fitting_97 rfl rfl ⟨by first | omega | (simp (decide := true) only [au_1, nu_2, au_lt, nu_lt, aw_e, nw_e, au_s, au_n, nu_s, nu_n, au_au, nu_nu, au_nu]; omega), by first | omega | (simp (decide := true) only [au_1, nu_2, au_lt, nu_lt, aw_e, nw_e, au_s, au_n, nu_s, nu_n, au_au, nu_nu, au_nu]; omega)⟩ ?_
          refine w_goto (tgt := 6) dX10_fitting_100 rfl ?_
          -- at 6: .iload 5
          rw [show 8 * k + 8 = 8 * (k + 1) by omega]
          exact ih (by omega) _
        · intro m m0 m1 ihm _
          have hCm := Cr (8 * k + m) (by omega)
          have hCs := Cs (8 * k + m) (by omega)
          rw [← Int.add_assoc, hCs] at ihm
          have no : ¬ cdB σ f b l (8 * i + j) (8 * k + m) → tvW mX10_fitting (d + 5) K 91 [some (xR (fO f)), some (xI i), some (xI j), some (xI en), some (xI (C (8 * k + m))), some (xI k), some (xI m)] [] G bc bs := by
            intro y
            rw [b1_f y, Int.add_zero] at ihm
            refine w_inc6 (pc' := 94) dX10_fitting_91 rfl rfl ⟨by first | omega | (simp (decide := true) only [au_1, nu_2, au_lt, nu_lt, aw_e, nw_e, au_s, au_n, nu_s, nu_n, au_au, nu_nu, au_nu]; omega), by first | omega | (simp (decide := true) only [au_1, nu_2, au_lt, nu_lt, aw_e, nw_e, au_s, au_n, nu_s, nu_n, au_au, nu_nu, au_nu]; omega)⟩ ?_
            refine w_goto (tgt := 43) dX10_fitting_94 rfl ?_
            -- at 43: .iload 6
            exact ihm (by omega)
          have hcd : cdB σ f b l (8 * i + j) (8 * k + m) ↔ 0 < l k ∧ lie (σ.2 3 k) (σ.2 1 k) m = m ∧ mlB σ f b (8 * i + j) (8 * k + m + 1) := by
            unfold cdB
            rw [show (8 * k + m) / 8 = k by omega, show (8 * k + m) % 8 = m by omega]
          refine w_iload (pc' := 45) dX10_fitting_43 rfl rfl ?_
          refine w_bipush (pc' := 47) dX10_fitting_45 rfl (by decide +kernel) (by decide) ?_
          -- at 47: .if_icmp .ge 50
          refine w_icmp_ge (pc' := 50) (tgt := 97) dX10_fitting_47 rfl rfl (fun h_ => False.elim (by first | omega | (simp (decide := true) only [au_1, nu_2, au_lt, nu_lt, aw_e, nw_e, au_s, au_n, nu_s, nu_n, au_au, nu_nu, au_nu] at h_; omega))) (fun h_ => ?_)
          refine w_aload_n (pc' := 51) dX10_fitting_50 rfl rfl ?_
          refine w_get 19 (pc' := 54) dX10_fitting_51 rfl fX10_3_8 hO rfl ?_
          refine w_get 0 (pc' := 57) dX10_fitting_54 rfl fX10_52_0 hof rfl ?_
          refine w_iload (pc' := 59) dX10_fitting_57 rfl rfl ?_
          -- at 59: .invokevirtual 56
          refine w_callV1 (pc' := 62) (mc := 0) (ms := 0) dX10_fitting_59 rfl tJ2_get q211 rfl rfl q212 q952 hlO rfl (Nat.le_of_ble_eq_true rfl) (Nat.le_of_ble_eq_true rfl) ?_
          refine c_J2_get hkin.1 ⟨k0, k1⟩ ?_
          refine w_p1 ?_
          refine w_cast (pc' := 65) dX10_fitting_62 rfl tl.1 rfl q953 ?_
          refine w_iload (pc' := 67) dX10_fitting_65 rfl rfl ?_
          -- at 67: .invokevirtual 76
          refine w_callV1 (pc' := 70) (mc := 0) (ms := 0) dX10_fitting_67 rfl tX2_lies q327 rfl rfl q328 q954 tl.1 rfl (Nat.le_of_ble_eq_true rfl) (Nat.le_of_ble_eq_true rfl) ?_
          refine c_X2_lies tl tT ⟨m0, m1⟩ ?_
          refine w_p1 ?_
          refine w_iload (pc' := 72) dX10_fitting_70 rfl rfl ?_
          -- at 72: .if_icmp .ne 19
          refine w_icmp_ne (pc' := 75) (tgt := 91) dX10_fitting_72 rfl rfl (fun q2 => ?_) (fun q2 => ?_)
          · exact no (fun y => q2 (hcd.mp y).2.1)
          · refine w_aload_n (pc' := 76) dX10_fitting_75 rfl rfl ?_
            refine w_iload_n (pc' := 77) dX10_fitting_76 rfl rfl ?_
            refine w_iload_n (pc' := 78) dX10_fitting_77 rfl rfl ?_
            refine w_iload (pc' := 80) dX10_fitting_78 rfl rfl ?_
            refine w_iload (pc' := 82) dX10_fitting_80 rfl rfl ?_
            -- at 82: .invokevirtual 79
            refine w_callV4 (pc' := 85) (mc := 0) (ms := 0) dX10_fitting_82 rfl tX10_fits q988 rfl rfl qs30 q986 hO rfl (Nat.le_of_ble_eq_true rfl) (Nat.le_of_ble_eq_true rfl) ?_
            refine c_X10_fits hS hK hF hf eH eW hb hi hj ⟨k0, k1⟩ ⟨m0, m1⟩ (fun y => w_p1 ?_) (fun y => w_p1 ?_)
            · rw [b1_t (hcd.mpr ⟨by omega, q2, y⟩)] at ihm
              refine w_if_eq (pc' := 88) (tgt := 91) dX10_fitting_85 rfl rfl (fun h_ => False.elim (by first | omega | (simp (decide := true) only [au_1, nu_2, au_lt, nu_lt, aw_e, nw_e, au_s, au_n, nu_s, nu_n, au_au, nu_nu, au_nu] at h_; omega))) (fun h_ => ?_)
              refine w_inc4 (pc' := 91) dX10_fitting_88 rfl rfl ⟨by first | omega | (simp (decide := true) only [au_1, nu_2, au_lt, nu_lt, aw_e, nw_e, au_s, au_n, nu_s, nu_n, au_au, nu_nu, au_nu]; omega), by first | omega | (simp (decide := true) only [au_1, nu_2, au_lt, nu_lt, aw_e, nw_e, au_s, au_n, nu_s, nu_n, au_au, nu_nu, au_nu]; omega)⟩ ?_
              refine w_inc6 (pc' := 94) dX10_fitting_91 rfl rfl ⟨by first | omega | (simp (decide := true) only [au_1, nu_2, au_lt, nu_lt, aw_e, nw_e, au_s, au_n, nu_s, nu_n, au_au, nu_nu, au_nu]; omega), by first | omega | (simp (decide := true) only [au_1, nu_2, au_lt, nu_lt, aw_e, nw_e, au_s, au_n, nu_s, nu_n, au_au, nu_nu, au_nu]; omega)⟩ ?_
              refine w_goto (tgt := 43) dX10_fitting_94 rfl ?_
              -- at 43: .iload 6
              exact ihm (by omega)
            · refine w_if_eq (pc' := 88) (tgt := 91) dX10_fitting_85 rfl rfl (fun h_ => ?_) (fun h_ => False.elim (by first | omega | (simp (decide := true) only [au_1, nu_2, au_lt, nu_lt, aw_e, nw_e, au_s, au_n, nu_s, nu_n, au_au, nu_nu, au_nu] at h_; omega)))
              exact no (fun x => y (hcd.mp x).2.2)
end
