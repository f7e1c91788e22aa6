set_option maxRecDepth 10000
/-! floors -/
def w32 (z : Int) : Int := (Int32.ofInt z).toInt
theorem w32_of {z : Int} (h : rg z) : w32 z = z := e_toInt h
def fo1 (σ : MS) : Prop := (0 ≤ σ.1 40 ∧ σ.1 40 ≤ 6) ∧ ∀ f, 0 ≤ f → f < σ.1 40 → (1 ≤ σ.2 35 f ∧ σ.2 35 f ≤ 8) ∧ (1 ≤ σ.2 36 f ∧ σ.2 36 f ≤ 8) ∧ (∀ k, 0 ≤ k → k < 64 → (-2 = σ.2 37 (64 * f + k) ∨ 0 ≤ σ.2 37 (64 * f + k) ∧ σ.2 37 (64 * f + k) ≤ 8 * σ.1 5)) ∧ ∀ k, 0 ≤ k → k < 40 → 0 ≤ σ.2 39 (40 * f + k) ∧ σ.2 39 (40 * f + k) ≤ 99
def fok (σ : MS) : Prop := fo1 σ ∧ ∀ f, 0 ≤ f → f < σ.1 40 → ∀ k, 0 ≤ k → k < 64 → 0 ≤ σ.2 38 (64 * f + k) ∧ σ.2 38 (64 * f + k) ≤ 8 * σ.1 5
def lyB (σ : MS) (f : Int) (b : Int → Int) (i j : Int) : Int := if (0 ≤ i ∧ i < σ.2 35 f) ∧ 0 ≤ j ∧ j < σ.2 36 f then (if 0 < σ.2 37 (64 * f + 8 * i + j) then σ.2 37 (64 * f + 8 * i + j) else if σ.2 37 (64 * f + 8 * i + j) = -2 then 0 else b (8 * i + j)) else 0
def mlB (σ : MS) (f : Int) (b : Int → Int) (pl c : Int) : Prop := ftt σ c (lyB σ f b (pl / 8 - 1) (pl % 8)) 0 ∧ ftt σ c (lyB σ f b (pl / 8) (pl % 8 + 1)) 1 ∧ ftt σ c (lyB σ f b (pl / 8 + 1) (pl % 8)) 2 ∧ ftt σ c (lyB σ f b (pl / 8) (pl % 8 - 1)) 3
def cdB (σ : MS) (f : Int) (b l : Int → Int) (pl n : Int) : Prop := 0 < l (n / 8) ∧ lie (σ.2 3 (n / 8)) (σ.2 1 (n / 8)) (n % 8) = n % 8 ∧ mlB σ f b pl (n + 1)
noncomputable def nfB (σ : MS) (f : Int) (b l : Int → Int) (pl : Int) : Int := sm (fun n => b1 (cdB σ f b l pl n)) (8 * σ.1 5)
def opB (σ : MS) (f k : Int) : Prop := (0 ≤ k ∧ k / 8 < σ.2 35 f ∧ k % 8 < σ.2 36 f) ∧ σ.2 37 (64 * f + k) = 0
def bok (σ : MS) (f : Int) (b : Int → Int) : Prop := ∀ k, 0 ≤ k → k / 8 < σ.2 35 f → k % 8 < σ.2 36 f → 0 ≤ b k ∧ b k ≤ 8 * σ.1 5
def lok (σ : MS) (l : Int → Int) : Prop := ∀ k, 0 ≤ k → k < σ.1 5 → 0 ≤ l k ∧ l k ≤ 99
theorem isC_of {K c : Int} (h : 0 ≤ c ∧ c ≤ 8 * K) (hK : K ≤ 40) : isC K c := by unfold isC; omega
theorem lyB_ok {σ : MS} {f i j : Int} {b : Int → Int} (hK : kok σ) (hF : fo1 σ) (hf : 0 ≤ f ∧ f < σ.1 40) (hb : bok σ f b) : isC (σ.1 5) (lyB σ f b i j) := by
  have hK1 := hK.1
  obtain ⟨hR, hC, ht, -⟩ := hF.2 f hf.1 hf.2
  unfold lyB
  split
  · rename_i h
    have := ht (8 * i + j) (by omega) (by omega)
    rw [← Int.add_assoc] at this
    split
    · exact isC_of (by omega) hK1.2
    · split
      · exact Or.inl rfl
      · exact isC_of (hb (8 * i + j) (by omega) (by omega) (by omega)) hK1.2
  · exact Or.inl rfl
theorem cel_n {n : Int} : cel (n / 8) (n % 8) 0 = n + 1 := by unfold cel; omega
section
variable {d : Nat} {K : Option XV → GH → Prop} {G0 G : GH} {bc bs : Nat} {σ : MS} {M : tv_M} {pc pc' : Nat} {L : List (Option XV)} {st : List XV}
theorem w_iaddW {a b : Int} (hd : decode M.1 pc = .ok (.iadd, 1)) (hp : pc + 1 = pc') (k : tvW M d K pc' L (xI (w32 (a + b)) :: st) G bc bs) : tvW M d K pc L (xI b :: xI a :: st) G bc bs := by
  intro O ad0 G0 p l e R s m args below meth c Q E ad dom H locs cells slots ls S
  obtain ⟨hR, hst, hL, hS⟩ := S
  subst hp
  obtain ⟨h0, hst⟩ := tv_oks_c.mp hst
  obtain ⟨h1, hst⟩ := tv_oks_c.mp hst
  have kk := k O ad0 G0 p l e R s m args below meth c Q E ad dom H locs cells slots ls ⟨hR, tv_oks_c.mpr ⟨e_rg _, hst⟩, hL, hS⟩
  refine lv_iadd E.1 E.2.1 hd ?_
  rw [← Int32.ofInt_add]
  have q : Int32.ofInt (w32 (a + b)) = Int32.ofInt (a + b) := Int32.ofInt_toInt _
  simp only [List.map_cons, tv_e, q] at kk
  exact kk
theorem c_X1_isFloor {k : Int} (h1 : 0 ≤ k → k < σ.1 40 → K (some (xI 1)) (ov σ G0)) (h0 : ¬ (0 ≤ k ∧ k < σ.1 40) → K (some (xI 0)) (ov σ G0)) : tvW mX1_isFloor d K 0 [some (xR mR), some (xI k)] [] (ov σ G0) bc bs := by
  refine w_iload_n (pc' := 1) dX1_isFloor_0 rfl rfl ?_
  -- at 1: .ifCond .lt 15
  try simp (decide := true) only [au_1, nu_2, au_lt, nu_lt, aw_e, nw_e, au_s, au_n, nu_s, nu_n, au_au, nu_nu, au_nu]
  refine w_if_lt (pc' := 4) (tgt := 16) dX1_isFloor_1 rfl rfl (fun h => ?_) (fun h => ?_)
  · refine w_iconst (pc' := 17) dX1_isFloor_16 rfl (by decide) ?_
    -- at 17: .ireturn
    try simp (decide := true) only [au_1, nu_2, au_lt, nu_lt, aw_e, nw_e, au_s, au_n, nu_s, nu_n, au_au, nu_nu, au_nu]
    refine w_zreturn dX1_isFloor_17 rfl (by first | exact Or.inl rfl | exact Or.inr rfl | omega) ?_
    exact h0 (by omega)
  · refine w_iload_n (pc' := 5) dX1_isFloor_4 rfl rfl ?_
    refine w_aload_n (pc' := 6) dX1_isFloor_5 rfl rfl ?_
    refine w_mgi 40 (pc' := 9) dX1_isFloor_6 rfl fX1_285_1 rfl ?_
    -- at 9: .if_icmp .ge 7
    try simp (decide := true) only [au_1, nu_2, au_lt, nu_lt, aw_e, nw_e, au_s, au_n, nu_s, nu_n, au_au, nu_nu, au_nu]
    refine w_icmp_ge (pc' := 12) (tgt := 16) dX1_isFloor_9 rfl rfl (fun g => ?_) (fun g => ?_)
    · refine w_iconst (pc' := 17) dX1_isFloor_16 rfl (by decide) ?_
      -- at 17: .ireturn
      try simp (decide := true) only [au_1, nu_2, au_lt, nu_lt, aw_e, nw_e, au_s, au_n, nu_s, nu_n, au_au, nu_nu, au_nu]
      refine w_zreturn dX1_isFloor_17 rfl (by first | exact Or.inl rfl | exact Or.inr rfl | omega) ?_
      exact h0 (by omega)
    · refine w_iconst (pc' := 13) dX1_isFloor_12 rfl (by decide) ?_
      refine w_goto (tgt := 17) dX1_isFloor_13 rfl ?_
      -- at 17: .ireturn
      try simp (decide := true) only [au_1, nu_2, au_lt, nu_lt, aw_e, nw_e, au_s, au_n, nu_s, nu_n, au_au, nu_nu, au_nu]
      refine w_zreturn dX1_isFloor_17 rfl (by first | exact Or.inl rfl | exact Or.inr rfl | omega) ?_
      exact h1 (by omega) (by omega)
def floOk (σ : MS) (r c : Int) : Prop := σ.1 40 ≠ 6 ∧ (1 ≤ r ∧ r ≤ 8) ∧ 1 ≤ c ∧ c ≤ 8
def sFloor (σ : MS) (r c : Int) : MS := nu (au (au (au (au (au σ 35 (iset (σ.2 35) (σ.1 40) r)) 36 (iset (σ.2 36) (σ.1 40) c)) 37 (rfill (σ.2 37) (64 * σ.1 40) (64) (fun _ => 0))) 38 (rfill (σ.2 38) (64 * σ.1 40) (64) (fun _ => 0))) 39 (rfill (σ.2 39) (40 * σ.1 40) (40) (fun _ => 0))) 40 (σ.1 40 + 1)
theorem c_X1_floor {r c : Int} (hf : 0 ≤ σ.1 40 ∧ σ.1 40 ≤ 6) (h1 : floOk σ r c → K (some (xI (σ.1 40))) (ov (sFloor σ r c) G0)) (h0 : ¬ floOk σ r c → K (some (xI (-1))) (ov σ G0)) : tvW mX1_floor d K 0 [some (xR mR), some (xI r), some (xI c), none] [] (ov σ G0) bc bs := by
  unfold floOk at h0 h1
  have bad : ¬ (σ.1 40 ≠ 6 ∧ (1 ≤ r ∧ r ≤ 8) ∧ 1 ≤ c ∧ c ≤ 8) → tvW mX1_floor d K 31 [some (xR mR), some (xI r), some (xI c), none] [] (ov σ G0) bc bs := by
    intro q
    refine w_iconst (pc' := 32) dX1_floor_31 rfl (by decide) ?_
    -- at 32: .ireturn
    try simp (decide := true) only [au_1, nu_2, au_lt, nu_lt, aw_e, nw_e, au_s, au_n, nu_s, nu_n, au_au, nu_nu, au_nu]
    refine w_ireturn dX1_floor_32 rfl ?_
    exact h0 q
  refine w_aload_n (pc' := 1) dX1_floor_0 rfl rfl ?_
  refine w_mgi 40 (pc' := 4) dX1_floor_1 rfl fX1_285_1 rfl ?_
  refine w_bipush (pc' := 6) dX1_floor_4 rfl (by decide +kernel) (by decide) ?_
  refine w_icmp_eq (pc' := 9) (tgt := 31) dX1_floor_6 rfl rfl (fun g6 => by exact bad (by omega)) (fun g6 => ?_)
  refine w_iload_n (pc' := 10) dX1_floor_9 rfl rfl ?_
  refine w_iconst (pc' := 11) dX1_floor_10 rfl (by decide) ?_
  refine w_icmp_lt (pc' := 14) (tgt := 31) dX1_floor_11 rfl rfl (fun g11 => by exact bad (by omega)) (fun g11 => ?_)
  refine w_iload_n (pc' := 15) dX1_floor_14 rfl rfl ?_
  refine w_bipush (pc' := 17) dX1_floor_15 rfl (by decide +kernel) (by decide) ?_
  refine w_icmp_gt (pc' := 20) (tgt := 31) dX1_floor_17 rfl rfl (fun g17 => by exact bad (by omega)) (fun g17 => ?_)
  refine w_iload_n (pc' := 21) dX1_floor_20 rfl rfl ?_
  refine w_iconst (pc' := 22) dX1_floor_21 rfl (by decide) ?_
  refine w_icmp_lt (pc' := 25) (tgt := 31) dX1_floor_22 rfl rfl (fun g22 => by exact bad (by omega)) (fun g22 => ?_)
  refine w_iload_n (pc' := 26) dX1_floor_25 rfl rfl ?_
  refine w_bipush (pc' := 28) dX1_floor_26 rfl (by decide +kernel) (by decide) ?_
  refine w_icmp_le (pc' := 31) (tgt := 33) dX1_floor_28 rfl rfl (fun g28 => ?_) (fun g28 => by exact bad (by omega))
  -- at 33: .aload_n 0
  have h1 := h1 (by omega)
  unfold sFloor at h1
  refine w_aload_n (pc' := 34) dX1_floor_33 rfl rfl ?_
  refine w_mga 35 (pc' := 37) dX1_floor_34 rfl fX1_88_1 rfl ?_
  refine w_aload_n (pc' := 38) dX1_floor_37 rfl rfl ?_
  refine w_mgi 40 (pc' := 41) dX1_floor_38 rfl fX1_285_1 rfl ?_
  refine w_iload_n (pc' := 42) dX1_floor_41 rfl rfl ?_
  refine w_aui (pc' := 43) dX1_floor_42 rfl rfl (by first | omega | (simp (decide := true) only [au_1, nu_2, au_lt, nu_lt, aw_e, nw_e, au_s, au_n, nu_s, nu_n, au_au, nu_nu, au_nu]; omega)) (by first | omega | (simp (decide := true) only [au_1, nu_2, au_lt, nu_lt, aw_e, nw_e, au_s, au_n, nu_s, nu_n, au_au, nu_nu, au_nu]; omega)) ?_
  try simp (decide := true) only [au_1, nu_2, au_lt, nu_lt, aw_e, nw_e, au_s, au_n, nu_s, nu_n, au_au, nu_nu, au_nu]
  refine w_aload_n (pc' := 44) dX1_floor_43 rfl rfl ?_
  refine w_mga 36 (pc' := 47) dX1_floor_44 rfl fX1_91_1 rfl ?_
  refine w_aload_n (pc' := 48) dX1_floor_47 rfl rfl ?_
  refine w_mgi 40 (pc' := 51) dX1_floor_48 rfl fX1_285_1 rfl ?_
  refine w_iload_n (pc' := 52) dX1_floor_51 rfl rfl ?_
  refine w_aui (pc' := 53) dX1_floor_52 rfl rfl (by first | omega | (simp (decide := true) only [au_1, nu_2, au_lt, nu_lt, aw_e, nw_e, au_s, au_n, nu_s, nu_n, au_au, nu_nu, au_nu]; omega)) (by first | omega | (simp (decide := true) only [au_1, nu_2, au_lt, nu_lt, aw_e, nw_e, au_s, au_n, nu_s, nu_n, au_au, nu_nu, au_nu]; omega)) ?_
  try simp (decide := true) only [au_1, nu_2, au_lt, nu_lt, aw_e, nw_e, au_s, au_n, nu_s, nu_n, au_au, nu_nu, au_nu]
  refine w_iconst (pc' := 54) dX1_floor_53 rfl (by decide) ?_
  refine w_ist3 (pc' := 55) dX1_floor_54 rfl rfl ?_
  -- at 55: .iload_n 3
  try simp (decide := true) only [au_1, nu_2, au_lt, nu_lt, aw_e, nw_e, au_s, au_n, nu_s, nu_n, au_au, nu_nu, au_nu]
  refine w_ms (τ := (au (au (au (au (au σ 35 (iset (σ.2 35) (σ.1 40) r)) 36 (iset (σ.2 36) (σ.1 40) c)) 37 (rfill (σ.2 37) (64 * σ.1 40) (0) (fun _ => 0))) 38 (rfill (σ.2 38) (64 * σ.1 40) (0) (fun _ => 0))) 39 (rfill (σ.2 39) (40 * σ.1 40) (0) (fun _ => 0)))) ?_ ?_
  · simp only [rfill_0]
    show _ = au (au (au (au (au σ 35 _) 36 _) 37 (σ.2 37)) 38 (σ.2 38)) 39 (σ.2 39)
    rw [show ∀ f g, au (au (au (au (au σ 35 f) 36 g) 37 (σ.2 37)) 38 (σ.2 38)) 39 (σ.2 39) = au (au σ 35 f) 36 g from fun f g => by
      rw [show au (au (au σ 35 f) 36 g) 37 (σ.2 37) = au (au σ 35 f) 36 g from au_id (σ := au (au σ 35 f) 36 g) (k := 37), show au (au (au σ 35 f) 36 g) 38 (σ.2 38) = au (au σ 35 f) 36 g from au_id (σ := au (au σ 35 f) 36 g) (k := 38)]
      exact au_id (σ := au (au σ 35 f) 36 g) (k := 39)]
  refine up (T := fun k => tvW mX1_floor d K 55 [some (xR mR), some (xI r), some (xI c), some (xI k)] [] (ov (au (au (au (au (au σ 35 (iset (σ.2 35) (σ.1 40) r)) 36 (iset (σ.2 36) (σ.1 40) c)) 37 (rfill (σ.2 37) (64 * σ.1 40) (k) (fun _ => 0))) 38 (rfill (σ.2 38) (64 * σ.1 40) (k) (fun _ => 0))) 39 (rfill (σ.2 39) (40 * σ.1 40) (0) (fun _ => 0))) G0) bc bs) (a := 0) 64 (by omega) ?_ (fun k k0 k1 ih => ?_)
  · refine w_iload_n (pc' := 56) dX1_floor_55 rfl rfl ?_
    refine w_bipush (pc' := 58) dX1_floor_56 rfl (by decide +kernel) (by decide) ?_
    -- at 58: .if_icmp .ge 39
    try simp (decide := true) only [au_1, nu_2, au_lt, nu_lt, aw_e, nw_e, au_s, au_n, nu_s, nu_n, au_au, nu_nu, au_nu]
    refine w_icmp_ge (pc' := 61) (tgt := 97) dX1_floor_58 rfl rfl (fun h_ => ?_) (fun h_ => False.elim (by first | omega | (simp (decide := true) only [au_1, nu_2, au_lt, nu_lt, aw_e, nw_e, au_s, au_n, nu_s, nu_n, au_au, nu_nu, au_nu] at h_; omega)))
    refine w_iconst (pc' := 98) dX1_floor_97 rfl (by decide) ?_
    refine w_ist3 (pc' := 99) dX1_floor_98 rfl rfl ?_
    -- at 99: .iload_n 3
    try simp (decide := true) only [au_1, nu_2, au_lt, nu_lt, aw_e, nw_e, au_s, au_n, nu_s, nu_n, au_au, nu_nu, au_nu]
    refine up (T := fun k => tvW mX1_floor d K 99 [some (xR mR), some (xI r), some (xI c), some (xI k)] [] (ov (au (au (au (au (au σ 35 (iset (σ.2 35) (σ.1 40) r)) 36 (iset (σ.2 36) (σ.1 40) c)) 37 (rfill (σ.2 37) (64 * σ.1 40) (64) (fun _ => 0))) 38 (rfill (σ.2 38) (64 * σ.1 40) (64) (fun _ => 0))) 39 (rfill (σ.2 39) (40 * σ.1 40) (k) (fun _ => 0))) G0) bc bs) (a := 0) 40 (by omega) ?_ (fun k k0 k1 ih => ?_)
    · refine w_iload_n (pc' := 100) dX1_floor_99 rfl rfl ?_
      refine w_bipush (pc' := 102) dX1_floor_100 rfl (by decide +kernel) (by decide) ?_
      -- at 102: .if_icmp .ge 24
      try simp (decide := true) only [au_1, nu_2, au_lt, nu_lt, aw_e, nw_e, au_s, au_n, nu_s, nu_n, au_au, nu_nu, au_nu]
      refine w_icmp_ge (pc' := 105) (tgt := 126) dX1_floor_102 rfl rfl (fun h_ => ?_) (fun h_ => False.elim (by first | omega | (simp (decide := true) only [au_1, nu_2, au_lt, nu_lt, aw_e, nw_e, au_s, au_n, nu_s, nu_n, au_au, nu_nu, au_nu] at h_; omega)))
      refine w_aload_n (pc' := 127) dX1_floor_126 rfl rfl ?_
      refine w_dup (pc' := 128) dX1_floor_127 rfl rfl ?_
      refine w_mgi 40 (pc' := 131) dX1_floor_128 rfl fX1_285_1 rfl ?_
      refine w_iconst (pc' := 132) dX1_floor_131 rfl (by decide) ?_
      refine w_iadd (pc' := 133) dX1_floor_132 rfl ⟨by first | omega | (simp (decide := true) only [au_1, nu_2, au_lt, nu_lt, aw_e, nw_e, au_s, au_n, nu_s, nu_n, au_au, nu_nu, au_nu]; omega), by first | omega | (simp (decide := true) only [au_1, nu_2, au_lt, nu_lt, aw_e, nw_e, au_s, au_n, nu_s, nu_n, au_au, nu_nu, au_nu]; omega)⟩ ?_
      refine w_nup 40 (pc' := 136) dX1_floor_133 rfl pX1_285_1 rfl trivial ?_
      try simp (decide := true) only [au_1, nu_2, au_lt, nu_lt, aw_e, nw_e, au_s, au_n, nu_s, nu_n, au_au, nu_nu, au_nu]
      refine w_aload_n (pc' := 137) dX1_floor_136 rfl rfl ?_
      refine w_mgi 40 (pc' := 140) dX1_floor_137 rfl fX1_285_1 rfl ?_
      refine w_iconst (pc' := 141) dX1_floor_140 rfl (by decide) ?_
      refine w_isub (pc' := 142) dX1_floor_141 rfl ⟨by first | omega | (simp (decide := true) only [au_1, nu_2, au_lt, nu_lt, aw_e, nw_e, au_s, au_n, nu_s, nu_n, au_au, nu_nu, au_nu]; omega), by first | omega | (simp (decide := true) only [au_1, nu_2, au_lt, nu_lt, aw_e, nw_e, au_s, au_n, nu_s, nu_n, au_au, nu_nu, au_nu]; omega)⟩ ?_
      -- at 142: .ireturn
      try simp (decide := true) only [au_1, nu_2, au_lt, nu_lt, aw_e, nw_e, au_s, au_n, nu_s, nu_n, au_au, nu_nu, au_nu]
      refine w_ireturn dX1_floor_142 rfl ?_
      rw [show σ.1 40 + 1 - 1 = σ.1 40 by omega]
      exact h1
    · refine w_iload_n (pc' := 100) dX1_floor_99 rfl rfl ?_
      refine w_bipush (pc' := 102) dX1_floor_100 rfl (by decide +kernel) (by decide) ?_
      -- at 102: .if_icmp .ge 24
      try simp (decide := true) only [au_1, nu_2, au_lt, nu_lt, aw_e, nw_e, au_s, au_n, nu_s, nu_n, au_au, nu_nu, au_nu]
      refine w_icmp_ge (pc' := 105) (tgt := 126) dX1_floor_102 rfl rfl (fun h_ => False.elim (by first | omega | (simp (decide := true) only [au_1, nu_2, au_lt, nu_lt, aw_e, nw_e, au_s, au_n, nu_s, nu_n, au_au, nu_nu, au_nu] at h_; omega))) (fun h_ => ?_)
      refine w_aload_n (pc' := 106) dX1_floor_105 rfl rfl ?_
      refine w_mga 39 (pc' := 109) dX1_floor_106 rfl fX1_100_1 rfl ?_
      refine w_bipush (pc' := 111) dX1_floor_109 rfl (by decide +kernel) (by decide) ?_
      refine w_aload_n (pc' := 112) dX1_floor_111 rfl rfl ?_
      refine w_mgi 40 (pc' := 115) dX1_floor_112 rfl fX1_285_1 rfl ?_
      refine w_imul (pc' := 116) dX1_floor_115 rfl ⟨by first | omega | (simp (decide := true) only [au_1, nu_2, au_lt, nu_lt, aw_e, nw_e, au_s, au_n, nu_s, nu_n, au_au, nu_nu, au_nu]; omega), by first | omega | (simp (decide := true) only [au_1, nu_2, au_lt, nu_lt, aw_e, nw_e, au_s, au_n, nu_s, nu_n, au_au, nu_nu, au_nu]; omega)⟩ ?_
      refine w_iload_n (pc' := 117) dX1_floor_116 rfl rfl ?_
      refine w_iadd (pc' := 118) dX1_floor_117 rfl ⟨by first | omega | (simp (decide := true) only [au_1, nu_2, au_lt, nu_lt, aw_e, nw_e, au_s, au_n, nu_s, nu_n, au_au, nu_nu, au_nu]; omega), by first | omega | (simp (decide := true) only [au_1, nu_2, au_lt, nu_lt, aw_e, nw_e, au_s, au_n, nu_s, nu_n, au_au, nu_nu, au_nu]; omega)⟩ ?_
      refine w_iconst (pc' := 119) dX1_floor_118 rfl (by decide) ?_
      refine w_aui (pc' := 120) dX1_floor_119 rfl rfl (by first | omega | (simp (decide := true) only [au_1, nu_2, au_lt, nu_lt, aw_e, nw_e, au_s, au_n, nu_s, nu_n, au_au, nu_nu, au_nu]; omega)) (by first | omega | (simp (decide := true) only [au_1, nu_2, au_lt, nu_lt, aw_e, nw_e, au_s, au_n, nu_s, nu_n, au_au, nu_nu, au_nu]; omega)) ?_
      try simp (decide := true) only [au_1, nu_2, au_lt, nu_lt, aw_e, nw_e, au_s, au_n, nu_s, nu_n, au_au, nu_nu, au_nu]
      refine w_inc3 (pc' := 123) dX1_floor_120 rfl rfl ⟨by first | omega | (simp (decide := true) only [au_1, nu_2, au_lt, nu_lt, aw_e, nw_e, au_s, au_n, nu_s, nu_n, au_au, nu_nu, au_nu]; omega), by first | omega | (simp (decide := true) only [au_1, nu_2, au_lt, nu_lt, aw_e, nw_e, au_s, au_n, nu_s, nu_n, au_au, nu_nu, au_nu]; omega)⟩ ?_
      refine w_goto (tgt := 99) dX1_floor_123 rfl ?_
      -- at 99: .iload_n 3
      try simp (decide := true) only [au_1, nu_2, au_lt, nu_lt, aw_e, nw_e, au_s, au_n, nu_s, nu_n, au_au, nu_nu, au_nu]
      refine w_ms ?_ ih
      congr 1
      exact rfill_s' k0 rfl rfl
  · refine w_iload_n (pc' := 56) dX1_floor_55 rfl rfl ?_
    refine w_bipush (pc' := 58) dX1_floor_56 rfl (by decide +kernel) (by decide) ?_
    -- at 58: .if_icmp .ge 39
    try simp (decide := true) only [au_1, nu_2, au_lt, nu_lt, aw_e, nw_e, au_s, au_n, nu_s, nu_n, au_au, nu_nu, au_nu]
    refine w_icmp_ge (pc' := 61) (tgt := 97) dX1_floor_58 rfl rfl (fun h_ => False.elim (by first | omega | (simp (decide := true) only [au_1, nu_2, au_lt, nu_lt, aw_e, nw_e, au_s, au_n, nu_s, nu_n, au_au, nu_nu, au_nu] at h_; omega))) (fun h_ => ?_)
    refine w_aload_n (pc' := 62) dX1_floor_61 rfl rfl ?_
    refine w_mga 37 (pc' := 65) dX1_floor_62 rfl fX1_94_1 rfl ?_
    refine w_bipush (pc' := 67) dX1_floor_65 rfl (by decide +kernel) (by decide) ?_
    refine w_aload_n (pc' := 68) dX1_floor_67 rfl rfl ?_
    refine w_mgi 40 (pc' := 71) dX1_floor_68 rfl fX1_285_1 rfl ?_
    refine w_imul (pc' := 72) dX1_floor_71 rfl ⟨by first | omega | (simp (decide := true) only [au_1, nu_2, au_lt, nu_lt, aw_e, nw_e, au_s, au_n, nu_s, nu_n, au_au, nu_nu, au_nu]; omega), by first | omega | (simp (decide := true) only [au_1, nu_2, au_lt, nu_lt, aw_e, nw_e, au_s, au_n, nu_s, nu_n, au_au, nu_nu, au_nu]; omega)⟩ ?_
    refine w_iload_n (pc' := 73) dX1_floor_72 rfl rfl ?_
    refine w_iadd (pc' := 74) dX1_floor_73 rfl ⟨by first | omega | (simp (decide := true) only [au_1, nu_2, au_lt, nu_lt, aw_e, nw_e, au_s, au_n, nu_s, nu_n, au_au, nu_nu, au_nu]; omega), by first | omega | (simp (decide := true) only [au_1, nu_2, au_lt, nu_lt, aw_e, nw_e, au_s, au_n, nu_s, nu_n, au_au, nu_nu, au_nu]; omega)⟩ ?_
    refine w_iconst (pc' := 75) dX1_floor_74 rfl (by decide) ?_
    refine w_aui (pc' := 76) dX1_floor_75 rfl rfl (by first | omega | (simp (decide := true) only [au_1, nu_2, au_lt, nu_lt, aw_e, nw_e, au_s, au_n, nu_s, nu_n, au_au, nu_nu, au_nu]; omega)) (by first | omega | (simp (decide := true) only [au_1, nu_2, au_lt, nu_lt, aw_e, nw_e, au_s, au_n, nu_s, nu_n, au_au, nu_nu, au_nu]; omega)) ?_
    try simp (decide := true) only [au_1, nu_2, au_lt, nu_lt, aw_e, nw_e, au_s, au_n, nu_s, nu_n, au_au, nu_nu, au_nu]
    refine w_aload_n (pc' := 77) dX1_floor_76 rfl rfl ?_
    refine w_mga 38 (pc' := 80) dX1_floor_77 rfl fX1_97_1 rfl ?_
    refine w_bipush (pc' := 82) dX1_floor_80 rfl (by decide +kernel) (by decide) ?_
    refine w_aload_n (pc' := 83) dX1_floor_82 rfl rfl ?_
    refine w_mgi 40 (pc' := 86) dX1_floor_83 rfl fX1_285_1 rfl ?_
    refine w_imul (pc' := 87) dX1_floor_86 rfl ⟨by first | omega | (simp (decide := true) only [au_1, nu_2, au_lt, nu_lt, aw_e, nw_e, au_s, au_n, nu_s, nu_n, au_au, nu_nu, au_nu]; omega), by first | omega | (simp (decide := true) only [au_1, nu_2, au_lt, nu_lt, aw_e, nw_e, au_s, au_n, nu_s, nu_n, au_au, nu_nu, au_nu]; omega)⟩ ?_
    refine w_iload_n (pc' := 88) dX1_floor_87 rfl rfl ?_
    refine w_iadd (pc' := 89) dX1_floor_88 rfl ⟨by first | omega | (simp (decide := true) only [au_1, nu_2, au_lt, nu_lt, aw_e, nw_e, au_s, au_n, nu_s, nu_n, au_au, nu_nu, au_nu]; omega), by first | omega | (simp (decide := true) only [au_1, nu_2, au_lt, nu_lt, aw_e, nw_e, au_s, au_n, nu_s, nu_n, au_au, nu_nu, au_nu]; omega)⟩ ?_
    refine w_iconst (pc' := 90) dX1_floor_89 rfl (by decide) ?_
    refine w_aui (pc' := 91) dX1_floor_90 rfl rfl (by first | omega | (simp (decide := true) only [au_1, nu_2, au_lt, nu_lt, aw_e, nw_e, au_s, au_n, nu_s, nu_n, au_au, nu_nu, au_nu]; omega)) (by first | omega | (simp (decide := true) only [au_1, nu_2, au_lt, nu_lt, aw_e, nw_e, au_s, au_n, nu_s, nu_n, au_au, nu_nu, au_nu]; omega)) ?_
    try simp (decide := true) only [au_1, nu_2, au_lt, nu_lt, aw_e, nw_e, au_s, au_n, nu_s, nu_n, au_au, nu_nu, au_nu]
    refine w_inc3 (pc' := 94) dX1_floor_91 rfl rfl ⟨by first | omega | (simp (decide := true) only [au_1, nu_2, au_lt, nu_lt, aw_e, nw_e, au_s, au_n, nu_s, nu_n, au_au, nu_nu, au_nu]; omega), by first | omega | (simp (decide := true) only [au_1, nu_2, au_lt, nu_lt, aw_e, nw_e, au_s, au_n, nu_s, nu_n, au_au, nu_nu, au_nu]; omega)⟩ ?_
    refine w_goto (tgt := 55) dX1_floor_94 rfl ?_
    -- at 55: .iload_n 3
    try simp (decide := true) only [au_1, nu_2, au_lt, nu_lt, aw_e, nw_e, au_s, au_n, nu_s, nu_n, au_au, nu_nu, au_nu]
    refine w_ms ?_ ih
    congr 3
    · exact rfill_s' k0 rfl rfl
    · exact rfill_s' k0 rfl rfl
def isPl (σ : MS) (f i j : Int) : Prop := (0 ≤ f ∧ f < σ.1 40) ∧ (0 ≤ i ∧ i < σ.2 35 f) ∧ 0 ≤ j ∧ j < σ.2 36 f
theorem c_X1_isPlace {f i j : Int} (hf : 0 ≤ σ.1 40 ∧ σ.1 40 ≤ 6) (h1 : isPl σ f i j → K (some (xI 1)) (ov σ G0)) (h0 : ¬ isPl σ f i j → K (some (xI 0)) (ov σ G0)) : tvW mX1_isPlace (d + 1) K 0 [some (xR mR), some (xI f), some (xI i), some (xI j)] [] (ov σ G0) bc bs := by
  unfold isPl at h0 h1
  have bad : ¬ ((0 ≤ f ∧ f < σ.1 40) ∧ (0 ≤ i ∧ i < σ.2 35 f) ∧ 0 ≤ j ∧ j < σ.2 36 f) → tvW mX1_isPlace (d + 1) K 40 [some (xR mR), some (xI f), some (xI i), some (xI j)] [] (ov σ G0) bc bs := by
    intro q
    refine w_iconst (pc' := 41) dX1_isPlace_40 rfl (by decide) ?_
    -- at 41: .ireturn
    try simp (decide := true) only [au_1, nu_2, au_lt, nu_lt, aw_e, nw_e, au_s, au_n, nu_s, nu_n, au_au, nu_nu, au_nu]
    refine w_zreturn dX1_isPlace_41 rfl (by first | exact Or.inl rfl | exact Or.inr rfl | omega) ?_
    exact h0 q
  refine w_aload_n (pc' := 1) dX1_isPlace_0 rfl rfl ?_
  refine w_iload_n (pc' := 2) dX1_isPlace_1 rfl rfl ?_
  refine w_callV1 (pc' := 5) (mc := 0) (ms := 0) dX1_isPlace_2 rfl tX1_isFloor q1501 rfl rfl qs66 q1499 ov_o rfl (Nat.le_of_ble_eq_true rfl) (Nat.le_of_ble_eq_true rfl) ?_
  refine c_X1_isFloor  (fun g2a g2b => w_p1 ?_) (fun g2 => w_p1 ?_)
  rotate_left
  · refine w_if_eq (pc' := 8) (tgt := 40) dX1_isPlace_5 rfl rfl (fun h_ => ?_) (fun h_ => False.elim (by omega))
    exact bad (by omega)
  refine w_if_eq (pc' := 8) (tgt := 40) dX1_isPlace_5 rfl rfl (fun h_ => False.elim (by omega)) (fun h_ => ?_)
  refine w_iload_n (pc' := 9) dX1_isPlace_8 rfl rfl ?_
  refine w_if_lt (pc' := 12) (tgt := 40) dX1_isPlace_9 rfl rfl (fun g9 => by exact bad (by omega)) (fun g9 => ?_)
  refine w_iload_n (pc' := 13) dX1_isPlace_12 rfl rfl ?_
  refine w_aload_n (pc' := 14) dX1_isPlace_13 rfl rfl ?_
  refine w_mga 35 (pc' := 17) dX1_isPlace_14 rfl fX1_88_1 rfl ?_
  refine w_iload_n (pc' := 18) dX1_isPlace_17 rfl rfl ?_
  refine w_mild (pc' := 19) dX1_isPlace_18 rfl rfl (by first | omega | (simp (decide := true) only [au_1, nu_2, au_lt, nu_lt, aw_e, nw_e, au_s, au_n, nu_s, nu_n, au_au, nu_nu, au_nu]; omega)) (by first | omega | (simp (decide := true) only [au_1, nu_2, au_lt, nu_lt, aw_e, nw_e, au_s, au_n, nu_s, nu_n, au_au, nu_nu, au_nu]; omega)) ?_
  refine w_icmp_ge (pc' := 22) (tgt := 40) dX1_isPlace_19 rfl rfl (fun g19 => by exact bad (by omega)) (fun g19 => ?_)
  refine w_iload_n (pc' := 23) dX1_isPlace_22 rfl rfl ?_
  refine w_if_lt (pc' := 26) (tgt := 40) dX1_isPlace_23 rfl rfl (fun g23 => by exact bad (by omega)) (fun g23 => ?_)
  refine w_iload_n (pc' := 27) dX1_isPlace_26 rfl rfl ?_
  refine w_aload_n (pc' := 28) dX1_isPlace_27 rfl rfl ?_
  refine w_mga 36 (pc' := 31) dX1_isPlace_28 rfl fX1_91_1 rfl ?_
  refine w_iload_n (pc' := 32) dX1_isPlace_31 rfl rfl ?_
  refine w_mild (pc' := 33) dX1_isPlace_32 rfl rfl (by first | omega | (simp (decide := true) only [au_1, nu_2, au_lt, nu_lt, aw_e, nw_e, au_s, au_n, nu_s, nu_n, au_au, nu_nu, au_nu]; omega)) (by first | omega | (simp (decide := true) only [au_1, nu_2, au_lt, nu_lt, aw_e, nw_e, au_s, au_n, nu_s, nu_n, au_au, nu_nu, au_nu]; omega)) ?_
  refine w_icmp_ge (pc' := 36) (tgt := 40) dX1_isPlace_33 rfl rfl (fun g33 => by exact bad (by omega)) (fun g33 => ?_)
  -- at 36: .iconst 1
  refine w_iconst (pc' := 37) dX1_isPlace_36 rfl (by decide) ?_
  refine w_goto (tgt := 41) dX1_isPlace_37 rfl ?_
  -- at 41: .ireturn
  try simp (decide := true) only [au_1, nu_2, au_lt, nu_lt, aw_e, nw_e, au_s, au_n, nu_s, nu_n, au_au, nu_nu, au_nu]
  refine w_zreturn dX1_isPlace_41 rfl (by first | exact Or.inl rfl | exact Or.inr rfl | omega) ?_
  exact h1 (by omega)
def plcOk (σ : MS) (f i j k m : Int) : Prop := isPl σ f i j ∧ (k = -2 ∨ k = -1 ∨ (0 ≤ k ∧ k < σ.1 5) ∧ 0 ≤ m ∧ m < 8)
def tcel (σ : MS) (k m : Int) : Int := if k = -2 then -2 else if k = -1 then 0 else cel k (lie (σ.2 3 k) (σ.2 1 k) m) 0
def sPlace (σ : MS) (f i j k m : Int) : MS := au (au σ 37 (iset (σ.2 37) (64 * f + 8 * i + j) (tcel σ k m))) 38 (iset (σ.2 38) (64 * f + 8 * i + j) 0)
theorem c_X1_place {f i j k m : Int} (hK : kok σ) (hF : fo1 σ) (h1 : plcOk σ f i j k m → K (some (xI 1)) (ov (sPlace σ f i j k m) G0)) (h0 : ¬ plcOk σ f i j k m → K (some (xI 0)) (ov σ G0)) : tvW mX1_place (d + 2) K 0 [some (xR mR), some (xI f), some (xI i), some (xI j), some (xI k), some (xI m), none] [] (ov σ G0) bc bs := by
  unfold plcOk at h0 h1
  have hK1 := hK.1
  have hF1 := hF.1
  have bad : ¬ (isPl σ f i j ∧ (k = -2 ∨ k = -1 ∨ (0 ≤ k ∧ k < σ.1 5) ∧ 0 ≤ m ∧ m < 8)) → tvW mX1_place (d + 2) K 40 [some (xR mR), some (xI f), some (xI i), some (xI j), some (xI k), some (xI m), none] [] (ov σ G0) bc bs := by
    intro q
    refine w_iconst (pc' := 41) dX1_place_40 rfl (by decide) ?_
    -- at 41: .ireturn
    try simp (decide := true) only [au_1, nu_2, au_lt, nu_lt, aw_e, nw_e, au_s, au_n, nu_s, nu_n, au_au, nu_nu, au_nu]
    refine w_zreturn dX1_place_41 rfl (by first | exact Or.inl rfl | exact Or.inr rfl | omega) ?_
    exact h0 q
  have fin : isPl σ f i j → (k = -2 ∨ k = -1 ∨ (0 ≤ k ∧ k < σ.1 5) ∧ 0 ≤ m ∧ m < 8) → tvW mX1_place (d + 2) K 42 [some (xR mR), some (xI f), some (xI i), some (xI j), some (xI k), some (xI m), none] [] (ov σ G0) bc bs := by
    intro q1 q2
    have h1 := h1 ⟨q1, q2⟩
    obtain ⟨z1, z2, z3⟩ := q1
    obtain ⟨hR, hC, -, -⟩ := hF.2 f z1.1 z1.2
    unfold sPlace tcel at h1
    refine w_bipush (pc' := 44) dX1_place_42 rfl (by decide +kernel) (by decide) ?_
    refine w_iload_n (pc' := 45) dX1_place_44 rfl rfl ?_
    refine w_imul (pc' := 46) dX1_place_45 rfl ⟨by first | omega | (simp (decide := true) only [au_1, nu_2, au_lt, nu_lt, aw_e, nw_e, au_s, au_n, nu_s, nu_n, au_au, nu_nu, au_nu]; omega), by first | omega | (simp (decide := true) only [au_1, nu_2, au_lt, nu_lt, aw_e, nw_e, au_s, au_n, nu_s, nu_n, au_au, nu_nu, au_nu]; omega)⟩ ?_
    refine w_bipush (pc' := 48) dX1_place_46 rfl (by decide +kernel) (by decide) ?_
    refine w_iload_n (pc' := 49) dX1_place_48 rfl rfl ?_
    refine w_imul (pc' := 50) dX1_place_49 rfl ⟨by first | omega | (simp (decide := true) only [au_1, nu_2, au_lt, nu_lt, aw_e, nw_e, au_s, au_n, nu_s, nu_n, au_au, nu_nu, au_nu]; omega), by first | omega | (simp (decide := true) only [au_1, nu_2, au_lt, nu_lt, aw_e, nw_e, au_s, au_n, nu_s, nu_n, au_au, nu_nu, au_nu]; omega)⟩ ?_
    refine w_iadd (pc' := 51) dX1_place_50 rfl ⟨by first | omega | (simp (decide := true) only [au_1, nu_2, au_lt, nu_lt, aw_e, nw_e, au_s, au_n, nu_s, nu_n, au_au, nu_nu, au_nu]; omega), by first | omega | (simp (decide := true) only [au_1, nu_2, au_lt, nu_lt, aw_e, nw_e, au_s, au_n, nu_s, nu_n, au_au, nu_nu, au_nu]; omega)⟩ ?_
    refine w_iload_n (pc' := 52) dX1_place_51 rfl rfl ?_
    refine w_iadd (pc' := 53) dX1_place_52 rfl ⟨by first | omega | (simp (decide := true) only [au_1, nu_2, au_lt, nu_lt, aw_e, nw_e, au_s, au_n, nu_s, nu_n, au_au, nu_nu, au_nu]; omega), by first | omega | (simp (decide := true) only [au_1, nu_2, au_lt, nu_lt, aw_e, nw_e, au_s, au_n, nu_s, nu_n, au_au, nu_nu, au_nu]; omega)⟩ ?_
    refine w_ist6 (pc' := 55) dX1_place_53 rfl rfl ?_
    refine w_aload_n (pc' := 56) dX1_place_55 rfl rfl ?_
    refine w_mga 37 (pc' := 59) dX1_place_56 rfl fX1_94_1 rfl ?_
    refine w_iload (pc' := 61) dX1_place_59 rfl rfl ?_
    refine w_iload (pc' := 63) dX1_place_61 rfl rfl ?_
    refine w_bipush (pc' := 65) dX1_place_63 rfl (by decide +kernel) (by decide) ?_
    -- at 65: .if_icmp .ne 8
    try simp (decide := true) only [au_1, nu_2, au_lt, nu_lt, aw_e, nw_e, au_s, au_n, nu_s, nu_n, au_au, nu_nu, au_nu]
    refine w_icmp_ne (pc' := 68) (tgt := 73) dX1_place_65 rfl rfl (fun g => ?_) (fun g => ?_)
    · rw [if_neg g] at h1
      refine w_iload (pc' := 75) dX1_place_73 rfl rfl ?_
      refine w_iconst (pc' := 76) dX1_place_75 rfl (by decide) ?_
      -- at 76: .if_icmp .ne 7
      try simp (decide := true) only [au_1, nu_2, au_lt, nu_lt, aw_e, nw_e, au_s, au_n, nu_s, nu_n, au_au, nu_nu, au_nu]
      refine w_icmp_ne (pc' := 79) (tgt := 83) dX1_place_76 rfl rfl (fun g2 => ?_) (fun g2 => ?_)
      · rw [if_neg g2] at h1
        obtain ⟨q6, q7⟩ : (0 ≤ k ∧ k < σ.1 5) ∧ 0 ≤ m ∧ m < 8 := by omega
        obtain ⟨-, ht, -⟩ := hK.2 k q6.1 q6.2
        refine w_iload (pc' := 85) dX1_place_83 rfl rfl ?_
        refine w_aload_n (pc' := 86) dX1_place_85 rfl rfl ?_
        refine w_iload (pc' := 88) dX1_place_86 rfl rfl ?_
        refine w_iload (pc' := 90) dX1_place_88 rfl rfl ?_
        -- at 90: .invokevirtual 148
        try simp (decide := true) only [au_1, nu_2, au_lt, nu_lt, aw_e, nw_e, au_s, au_n, nu_s, nu_n, au_au, nu_nu, au_nu]
        refine w_callV2 (pc' := 93) (mc := 0) (ms := 0) dX1_place_90 rfl tX1_lies q1274 rfl rfl qs40 q1272 ov_o rfl (Nat.le_of_ble_eq_true rfl) (Nat.le_of_ble_eq_true rfl) ?_
        refine c_X1_lies ⟨q6.1, by omega⟩ q7 ht ?_
        refine w_p1 ?_
        refine w_iconst (pc' := 94) dX1_place_93 rfl (by decide) ?_
        -- at 94: .invokestatic 166
        try simp (decide := true) only [au_1, nu_2, au_lt, nu_lt, aw_e, nw_e, au_s, au_n, nu_s, nu_n, au_au, nu_nu, au_nu]
        refine w_callS3 (pc' := 97) (mc := 0) (ms := 0) dX1_place_94 rfl tX1_cell q1329 q1328 rfl (Nat.le_of_ble_eq_true rfl) (Nat.le_of_ble_eq_true rfl) ?_
        refine c_X1_cell ⟨q6.1, by omega⟩ (lie_r ht q7.1 q7.2) ⟨by omega, by omega⟩ ?_
        refine w_p1 ?_
        refine w_aui (pc' := 98) dX1_place_97 rfl rfl (by first | omega | (simp (decide := true) only [au_1, nu_2, au_lt, nu_lt, aw_e, nw_e, au_s, au_n, nu_s, nu_n, au_au, nu_nu, au_nu]; omega)) (by first | omega | (simp (decide := true) only [au_1, nu_2, au_lt, nu_lt, aw_e, nw_e, au_s, au_n, nu_s, nu_n, au_au, nu_nu, au_nu]; omega)) ?_
        try simp (decide := true) only [au_1, nu_2, au_lt, nu_lt, aw_e, nw_e, au_s, au_n, nu_s, nu_n, au_au, nu_nu, au_nu]
        refine w_aload_n (pc' := 99) dX1_place_98 rfl rfl ?_
        refine w_mga 38 (pc' := 102) dX1_place_99 rfl fX1_97_1 rfl ?_
        refine w_iload (pc' := 104) dX1_place_102 rfl rfl ?_
        refine w_iconst (pc' := 105) dX1_place_104 rfl (by decide) ?_
        refine w_aui (pc' := 106) dX1_place_105 rfl rfl (by first | omega | (simp (decide := true) only [au_1, nu_2, au_lt, nu_lt, aw_e, nw_e, au_s, au_n, nu_s, nu_n, au_au, nu_nu, au_nu]; omega)) (by first | omega | (simp (decide := true) only [au_1, nu_2, au_lt, nu_lt, aw_e, nw_e, au_s, au_n, nu_s, nu_n, au_au, nu_nu, au_nu]; omega)) ?_
        try simp (decide := true) only [au_1, nu_2, au_lt, nu_lt, aw_e, nw_e, au_s, au_n, nu_s, nu_n, au_au, nu_nu, au_nu]
        refine w_iconst (pc' := 107) dX1_place_106 rfl (by decide) ?_
        -- at 107: .ireturn
        try simp (decide := true) only [au_1, nu_2, au_lt, nu_lt, aw_e, nw_e, au_s, au_n, nu_s, nu_n, au_au, nu_nu, au_nu]
        refine w_zreturn dX1_place_107 rfl (by first | exact Or.inl rfl | exact Or.inr rfl | omega) ?_
        exact h1
      · rw [if_pos g2] at h1
        refine w_iconst (pc' := 80) dX1_place_79 rfl (by decide) ?_
        refine w_goto (tgt := 97) dX1_place_80 rfl ?_
        refine w_aui (pc' := 98) dX1_place_97 rfl rfl (by first | omega | (simp (decide := true) only [au_1, nu_2, au_lt, nu_lt, aw_e, nw_e, au_s, au_n, nu_s, nu_n, au_au, nu_nu, au_nu]; omega)) (by first | omega | (simp (decide := true) only [au_1, nu_2, au_lt, nu_lt, aw_e, nw_e, au_s, au_n, nu_s, nu_n, au_au, nu_nu, au_nu]; omega)) ?_
        try simp (decide := true) only [au_1, nu_2, au_lt, nu_lt, aw_e, nw_e, au_s, au_n, nu_s, nu_n, au_au, nu_nu, au_nu]
        refine w_aload_n (pc' := 99) dX1_place_98 rfl rfl ?_
        refine w_mga 38 (pc' := 102) dX1_place_99 rfl fX1_97_1 rfl ?_
        refine w_iload (pc' := 104) dX1_place_102 rfl rfl ?_
        refine w_iconst (pc' := 105) dX1_place_104 rfl (by decide) ?_
        refine w_aui (pc' := 106) dX1_place_105 rfl rfl (by first | omega | (simp (decide := true) only [au_1, nu_2, au_lt, nu_lt, aw_e, nw_e, au_s, au_n, nu_s, nu_n, au_au, nu_nu, au_nu]; omega)) (by first | omega | (simp (decide := true) only [au_1, nu_2, au_lt, nu_lt, aw_e, nw_e, au_s, au_n, nu_s, nu_n, au_au, nu_nu, au_nu]; omega)) ?_
        try simp (decide := true) only [au_1, nu_2, au_lt, nu_lt, aw_e, nw_e, au_s, au_n, nu_s, nu_n, au_au, nu_nu, au_nu]
        refine w_iconst (pc' := 107) dX1_place_106 rfl (by decide) ?_
        -- at 107: .ireturn
        try simp (decide := true) only [au_1, nu_2, au_lt, nu_lt, aw_e, nw_e, au_s, au_n, nu_s, nu_n, au_au, nu_nu, au_nu]
        refine w_zreturn dX1_place_107 rfl (by first | exact Or.inl rfl | exact Or.inr rfl | omega) ?_
        exact h1
    · rw [if_pos g] at h1
      refine w_bipush (pc' := 70) dX1_place_68 rfl (by decide +kernel) (by decide) ?_
      refine w_goto (tgt := 97) dX1_place_70 rfl ?_
      refine w_aui (pc' := 98) dX1_place_97 rfl rfl (by first | omega | (simp (decide := true) only [au_1, nu_2, au_lt, nu_lt, aw_e, nw_e, au_s, au_n, nu_s, nu_n, au_au, nu_nu, au_nu]; omega)) (by first | omega | (simp (decide := true) only [au_1, nu_2, au_lt, nu_lt, aw_e, nw_e, au_s, au_n, nu_s, nu_n, au_au, nu_nu, au_nu]; omega)) ?_
      try simp (decide := true) only [au_1, nu_2, au_lt, nu_lt, aw_e, nw_e, au_s, au_n, nu_s, nu_n, au_au, nu_nu, au_nu]
      refine w_aload_n (pc' := 99) dX1_place_98 rfl rfl ?_
      refine w_mga 38 (pc' := 102) dX1_place_99 rfl fX1_97_1 rfl ?_
      refine w_iload (pc' := 104) dX1_place_102 rfl rfl ?_
      refine w_iconst (pc' := 105) dX1_place_104 rfl (by decide) ?_
      refine w_aui (pc' := 106) dX1_place_105 rfl rfl (by first | omega | (simp (decide := true) only [au_1, nu_2, au_lt, nu_lt, aw_e, nw_e, au_s, au_n, nu_s, nu_n, au_au, nu_nu, au_nu]; omega)) (by first | omega | (simp (decide := true) only [au_1, nu_2, au_lt, nu_lt, aw_e, nw_e, au_s, au_n, nu_s, nu_n, au_au, nu_nu, au_nu]; omega)) ?_
      try simp (decide := true) only [au_1, nu_2, au_lt, nu_lt, aw_e, nw_e, au_s, au_n, nu_s, nu_n, au_au, nu_nu, au_nu]
      refine w_iconst (pc' := 107) dX1_place_106 rfl (by decide) ?_
      -- at 107: .ireturn
      try simp (decide := true) only [au_1, nu_2, au_lt, nu_lt, aw_e, nw_e, au_s, au_n, nu_s, nu_n, au_au, nu_nu, au_nu]
      refine w_zreturn dX1_place_107 rfl (by first | exact Or.inl rfl | exact Or.inr rfl | omega) ?_
      exact h1
  refine w_aload_n (pc' := 1) dX1_place_0 rfl rfl ?_
  refine w_iload_n (pc' := 2) dX1_place_1 rfl rfl ?_
  refine w_iload_n (pc' := 3) dX1_place_2 rfl rfl ?_
  refine w_iload_n (pc' := 4) dX1_place_3 rfl rfl ?_
  refine w_callV3 (pc' := 7) (mc := 0) (ms := 0) dX1_place_4 rfl tX1_isPlace q1497 rfl rfl qs65 q1495 ov_o rfl (Nat.le_of_ble_eq_true rfl) (Nat.le_of_ble_eq_true rfl) ?_
  refine c_X1_isPlace hF1 (fun g4a => w_p1 ?_) (fun g4 => w_p1 ?_)
  rotate_left
  · refine w_if_eq (pc' := 10) (tgt := 40) dX1_place_7 rfl rfl (fun h_ => ?_) (fun h_ => False.elim (by omega))
    exact bad (fun z => g4 z.1)
  refine w_if_eq (pc' := 10) (tgt := 40) dX1_place_7 rfl rfl (fun h_ => False.elim (by omega)) (fun h_ => ?_)
  -- at 10: .iload 4
  refine w_iload (pc' := 12) dX1_place_10 rfl rfl ?_
  refine w_bipush (pc' := 14) dX1_place_12 rfl (by decide +kernel) (by decide) ?_
  -- at 14: .if_icmp .eq 28
  try simp (decide := true) only [au_1, nu_2, au_lt, nu_lt, aw_e, nw_e, au_s, au_n, nu_s, nu_n, au_au, nu_nu, au_nu]
  refine w_icmp_eq (pc' := 17) (tgt := 42) dX1_place_14 rfl rfl (fun t1 => ?_) (fun t1 => ?_)
  · exact fin g4a (by omega)
  · refine w_iload (pc' := 19) dX1_place_17 rfl rfl ?_
    refine w_iconst (pc' := 20) dX1_place_19 rfl (by decide) ?_
    -- at 20: .if_icmp .eq 22
    try simp (decide := true) only [au_1, nu_2, au_lt, nu_lt, aw_e, nw_e, au_s, au_n, nu_s, nu_n, au_au, nu_nu, au_nu]
    refine w_icmp_eq (pc' := 23) (tgt := 42) dX1_place_20 rfl rfl (fun t2 => ?_) (fun t2 => ?_)
    · exact fin g4a (by omega)
    · refine w_aload_n (pc' := 24) dX1_place_23 rfl rfl ?_
      refine w_iload (pc' := 26) dX1_place_24 rfl rfl ?_
      refine w_callV1 (pc' := 29) (mc := 0) (ms := 0) dX1_place_26 rfl tX1_isKind q1270 rfl rfl qs39 q1268 ov_o rfl (Nat.le_of_ble_eq_true rfl) (Nat.le_of_ble_eq_true rfl) ?_
      refine c_X1_isKind  (fun g26a g26b => w_p1 ?_) (fun g26 => w_p1 ?_)
      rotate_left
      · refine w_if_eq (pc' := 32) (tgt := 40) dX1_place_29 rfl rfl (fun h_ => ?_) (fun h_ => False.elim (by omega))
        exact bad (by omega)
      refine w_if_eq (pc' := 32) (tgt := 40) dX1_place_29 rfl rfl (fun h_ => False.elim (by omega)) (fun h_ => ?_)
      refine w_iload (pc' := 34) dX1_place_32 rfl rfl ?_
      refine w_callS1 (pc' := 37) (mc := 0) (ms := 0) dX1_place_34 rfl tX1_isMove q1259 q1258 rfl (Nat.le_of_ble_eq_true rfl) (Nat.le_of_ble_eq_true rfl) ?_
      refine c_X1_isMove  (fun g34a g34b => w_p1 ?_) (fun g34 => w_p1 ?_)
      rotate_left
      · refine w_if_ne (pc' := 40) (tgt := 42) dX1_place_37 rfl rfl (fun h_ => False.elim (by omega)) (fun h_ => ?_)
        exact bad (by omega)
      refine w_if_ne (pc' := 40) (tgt := 42) dX1_place_37 rfl rfl (fun h_ => ?_) (fun h_ => False.elim (by omega))
      -- at 42: .bipush 64
      exact fin g4a (by omega)
def stkOk (σ : MS) (f k n : Int) : Prop := (0 ≤ f ∧ f < σ.1 40) ∧ (0 ≤ k ∧ k < σ.1 5) ∧ 0 ≤ n ∧ n ≤ 99
theorem c_X1_stock {f k n : Int} (hK : kok σ) (hF : fo1 σ) (h1 : stkOk σ f k n → K (some (xI 1)) (ov (au σ 39 (iset (σ.2 39) (40 * f + k) n)) G0)) (h0 : ¬ stkOk σ f k n → K (some (xI 0)) (ov σ G0)) : tvW mX1_stock (d + 1) K 0 [some (xR mR), some (xI f), some (xI k), some (xI n)] [] (ov σ G0) bc bs := by
  unfold stkOk at h0 h1
  have hK1 := hK.1
  have hF1 := hF.1
  have bad : ¬ ((0 ≤ f ∧ f < σ.1 40) ∧ (0 ≤ k ∧ k < σ.1 5) ∧ 0 ≤ n ∧ n ≤ 99) → tvW mX1_stock (d + 1) K 26 [some (xR mR), some (xI f), some (xI k), some (xI n)] [] (ov σ G0) bc bs := by
    intro q
    refine w_iconst (pc' := 27) dX1_stock_26 rfl (by decide) ?_
    -- at 27: .ireturn
    try simp (decide := true) only [au_1, nu_2, au_lt, nu_lt, aw_e, nw_e, au_s, au_n, nu_s, nu_n, au_au, nu_nu, au_nu]
    refine w_zreturn dX1_stock_27 rfl (by first | exact Or.inl rfl | exact Or.inr rfl | omega) ?_
    exact h0 q
  refine w_aload_n (pc' := 1) dX1_stock_0 rfl rfl ?_
  refine w_iload_n (pc' := 2) dX1_stock_1 rfl rfl ?_
  refine w_callV1 (pc' := 5) (mc := 0) (ms := 0) dX1_stock_2 rfl tX1_isFloor q1501 rfl rfl qs66 q1499 ov_o rfl (Nat.le_of_ble_eq_true rfl) (Nat.le_of_ble_eq_true rfl) ?_
  refine c_X1_isFloor  (fun g2a g2b => w_p1 ?_) (fun g2 => w_p1 ?_)
  rotate_left
  · refine w_if_eq (pc' := 8) (tgt := 26) dX1_stock_5 rfl rfl (fun h_ => ?_) (fun h_ => False.elim (by omega))
    exact bad (by omega)
  refine w_if_eq (pc' := 8) (tgt := 26) dX1_stock_5 rfl rfl (fun h_ => False.elim (by omega)) (fun h_ => ?_)
  refine w_aload_n (pc' := 9) dX1_stock_8 rfl rfl ?_
  refine w_iload_n (pc' := 10) dX1_stock_9 rfl rfl ?_
  refine w_callV1 (pc' := 13) (mc := 0) (ms := 0) dX1_stock_10 rfl tX1_isKind q1270 rfl rfl qs39 q1268 ov_o rfl (Nat.le_of_ble_eq_true rfl) (Nat.le_of_ble_eq_true rfl) ?_
  refine c_X1_isKind  (fun g10a g10b => w_p1 ?_) (fun g10 => w_p1 ?_)
  rotate_left
  · refine w_if_eq (pc' := 16) (tgt := 26) dX1_stock_13 rfl rfl (fun h_ => ?_) (fun h_ => False.elim (by omega))
    exact bad (by omega)
  refine w_if_eq (pc' := 16) (tgt := 26) dX1_stock_13 rfl rfl (fun h_ => False.elim (by omega)) (fun h_ => ?_)
  refine w_iload_n (pc' := 17) dX1_stock_16 rfl rfl ?_
  refine w_if_lt (pc' := 20) (tgt := 26) dX1_stock_17 rfl rfl (fun g17 => by exact bad (by omega)) (fun g17 => ?_)
  refine w_iload_n (pc' := 21) dX1_stock_20 rfl rfl ?_
  refine w_bipush (pc' := 23) dX1_stock_21 rfl (by decide +kernel) (by decide) ?_
  refine w_icmp_le (pc' := 26) (tgt := 28) dX1_stock_23 rfl rfl (fun g23 => ?_) (fun g23 => by exact bad (by omega))
  -- at 28: .aload_n 0
  refine w_aload_n (pc' := 29) dX1_stock_28 rfl rfl ?_
  refine w_mga 39 (pc' := 32) dX1_stock_29 rfl fX1_100_1 rfl ?_
  refine w_bipush (pc' := 34) dX1_stock_32 rfl (by decide +kernel) (by decide) ?_
  refine w_iload_n (pc' := 35) dX1_stock_34 rfl rfl ?_
  refine w_imul (pc' := 36) dX1_stock_35 rfl ⟨by first | omega | (simp (decide := true) only [au_1, nu_2, au_lt, nu_lt, aw_e, nw_e, au_s, au_n, nu_s, nu_n, au_au, nu_nu, au_nu]; omega), by first | omega | (simp (decide := true) only [au_1, nu_2, au_lt, nu_lt, aw_e, nw_e, au_s, au_n, nu_s, nu_n, au_au, nu_nu, au_nu]; omega)⟩ ?_
  refine w_iload_n (pc' := 37) dX1_stock_36 rfl rfl ?_
  refine w_iadd (pc' := 38) dX1_stock_37 rfl ⟨by first | omega | (simp (decide := true) only [au_1, nu_2, au_lt, nu_lt, aw_e, nw_e, au_s, au_n, nu_s, nu_n, au_au, nu_nu, au_nu]; omega), by first | omega | (simp (decide := true) only [au_1, nu_2, au_lt, nu_lt, aw_e, nw_e, au_s, au_n, nu_s, nu_n, au_au, nu_nu, au_nu]; omega)⟩ ?_
  refine w_iload_n (pc' := 39) dX1_stock_38 rfl rfl ?_
  refine w_aui (pc' := 40) dX1_stock_39 rfl rfl (by first | omega | (simp (decide := true) only [au_1, nu_2, au_lt, nu_lt, aw_e, nw_e, au_s, au_n, nu_s, nu_n, au_au, nu_nu, au_nu]; omega)) (by first | omega | (simp (decide := true) only [au_1, nu_2, au_lt, nu_lt, aw_e, nw_e, au_s, au_n, nu_s, nu_n, au_au, nu_nu, au_nu]; omega)) ?_
  try simp (decide := true) only [au_1, nu_2, au_lt, nu_lt, aw_e, nw_e, au_s, au_n, nu_s, nu_n, au_au, nu_nu, au_nu]
  refine w_iconst (pc' := 41) dX1_stock_40 rfl (by decide) ?_
  -- at 41: .ireturn
  try simp (decide := true) only [au_1, nu_2, au_lt, nu_lt, aw_e, nw_e, au_s, au_n, nu_s, nu_n, au_au, nu_nu, au_nu]
  refine w_zreturn dX1_stock_41 rfl (by first | exact Or.inl rfl | exact Or.inr rfl | omega) ?_
  exact h1 (by omega)
/-- the cell that shows at a place of a floor -/
def shc (σ : MS) (f k : Int) : Int := if 0 < σ.2 37 (64 * f + k) then σ.2 37 (64 * f + k) else σ.2 38 (64 * f + k)
noncomputable def aShown (σ : MS) (f i j : Int) : Int := ic (isPl σ f i j) (if σ.2 37 (64 * f + (8 * i + j)) = -2 then -2 else shc σ f (8 * i + j) - 1) (-2)
theorem c_X1_shown {f i j : Int} (hK : kok σ) (hF : fok σ) (h : K (some (xI (aShown σ f i j))) (ov σ G0)) : tvW mX1_shown (d + 2) K 0 [some (xR mR), some (xI f), some (xI i), some (xI j), none, none] [] (ov σ G0) bc bs := by
  unfold aShown at h
  have hK1 := hK.1
  have hF1 := hF.1.1
  have bad : ¬ isPl σ f i j → tvW mX1_shown (d + 2) K 10 [some (xR mR), some (xI f), some (xI i), some (xI j), none, none] [] (ov σ G0) bc bs := by
    intro q
    rw [ic_f q] at h
    refine w_bipush (pc' := 12) dX1_shown_10 rfl (by decide +kernel) (by decide) ?_
    -- at 12: .ireturn
    try simp (decide := true) only [au_1, nu_2, au_lt, nu_lt, aw_e, nw_e, au_s, au_n, nu_s, nu_n, au_au, nu_nu, au_nu]
    refine w_ireturn dX1_shown_12 rfl ?_
    exact h
  refine w_aload_n (pc' := 1) dX1_shown_0 rfl rfl ?_
  refine w_iload_n (pc' := 2) dX1_shown_1 rfl rfl ?_
  refine w_iload_n (pc' := 3) dX1_shown_2 rfl rfl ?_
  refine w_iload_n (pc' := 4) dX1_shown_3 rfl rfl ?_
  refine w_callV3 (pc' := 7) (mc := 0) (ms := 0) dX1_shown_4 rfl tX1_isPlace q1497 rfl rfl qs65 q1495 ov_o rfl (Nat.le_of_ble_eq_true rfl) (Nat.le_of_ble_eq_true rfl) ?_
  refine c_X1_isPlace hF1 (fun g4a => w_p1 ?_) (fun g4 => w_p1 ?_)
  rotate_left
  · refine w_if_ne (pc' := 10) (tgt := 13) dX1_shown_7 rfl rfl (fun h_ => False.elim (by omega)) (fun h_ => ?_)
    exact bad g4
  refine w_if_ne (pc' := 10) (tgt := 13) dX1_shown_7 rfl rfl (fun h_ => ?_) (fun h_ => False.elim (by omega))
  -- at 13: .bipush 64
  rw [ic_t g4a] at h
  obtain ⟨z1, z2, z3⟩ := g4a
  obtain ⟨hR, hC, ht, -⟩ := hF.1.2 f z1.1 z1.2
  have hk := ht (8 * i + j) (by omega) (by omega)
  have hk2 := hF.2 f z1.1 z1.2 (8 * i + j) (by omega) (by omega)
  rw [← Int.add_assoc] at hk hk2 h
  unfold shc at h
  rw [← Int.add_assoc] at h
  have fin : ∀ c, c = (if 0 < σ.2 37 (64 * f + 8 * i + j) then σ.2 37 (64 * f + 8 * i + j) else σ.2 38 (64 * f + 8 * i + j)) → tvW mX1_shown (d + 2) K 53 [some (xR mR), some (xI f), some (xI i), some (xI j), some (xI (64 * f + 8 * i + j)), none] [xI c] (ov σ G0) bc bs := by
    intro c hc
    rw [← hc] at h
    have hcr : 0 ≤ c ∧ c ≤ 8 * σ.1 5 := by rw [hc]; split <;> omega
    refine w_ist5 (pc' := 55) dX1_shown_53 rfl rfl ?_
    refine w_aload_n (pc' := 56) dX1_shown_55 rfl rfl ?_
    refine w_mga 37 (pc' := 59) dX1_shown_56 rfl fX1_94_1 rfl ?_
    refine w_iload (pc' := 61) dX1_shown_59 rfl rfl ?_
    refine w_mild (pc' := 62) dX1_shown_61 rfl rfl (by first | omega | (simp (decide := true) only [au_1, nu_2, au_lt, nu_lt, aw_e, nw_e, au_s, au_n, nu_s, nu_n, au_au, nu_nu, au_nu]; omega)) (by first | omega | (simp (decide := true) only [au_1, nu_2, au_lt, nu_lt, aw_e, nw_e, au_s, au_n, nu_s, nu_n, au_au, nu_nu, au_nu]; omega)) ?_
    refine w_bipush (pc' := 64) dX1_shown_62 rfl (by decide +kernel) (by decide) ?_
    -- at 64: .if_icmp .ne 8
    try simp (decide := true) only [au_1, nu_2, au_lt, nu_lt, aw_e, nw_e, au_s, au_n, nu_s, nu_n, au_au, nu_nu, au_nu]
    refine w_icmp_ne (pc' := 67) (tgt := 72) dX1_shown_64 rfl rfl (fun g => ?_) (fun g => ?_)
    · rw [if_neg g] at h
      refine w_iload (pc' := 74) dX1_shown_72 rfl rfl ?_
      -- at 74: .ifCond .ne 7
      try simp (decide := true) only [au_1, nu_2, au_lt, nu_lt, aw_e, nw_e, au_s, au_n, nu_s, nu_n, au_au, nu_nu, au_nu]
      refine w_if_ne (pc' := 77) (tgt := 81) dX1_shown_74 rfl rfl (fun g2 => ?_) (fun g2 => ?_)
      · refine w_bipush (pc' := 83) dX1_shown_81 rfl (by decide +kernel) (by decide) ?_
        refine w_iload (pc' := 85) dX1_shown_83 rfl rfl ?_
        -- at 85: .invokestatic 156
        try simp (decide := true) only [au_1, nu_2, au_lt, nu_lt, aw_e, nw_e, au_s, au_n, nu_s, nu_n, au_au, nu_nu, au_nu]
        refine w_callS1 (pc' := 88) (mc := 0) (ms := 0) dX1_shown_85 rfl tX1_kindOf q1352 q1351 rfl (Nat.le_of_ble_eq_true rfl) (Nat.le_of_ble_eq_true rfl) ?_
        refine c_X1_kindOf ?_
        refine w_p1 ?_
        have hkk := isC_k (isC_of hcr hK1.2) g2
        have hmm := mOf_r (c := c)
        refine w_imul (pc' := 89) dX1_shown_88 rfl ⟨by first | omega | (simp (decide := true) only [au_1, nu_2, au_lt, nu_lt, aw_e, nw_e, au_s, au_n, nu_s, nu_n, au_au, nu_nu, au_nu]; omega), by first | omega | (simp (decide := true) only [au_1, nu_2, au_lt, nu_lt, aw_e, nw_e, au_s, au_n, nu_s, nu_n, au_au, nu_nu, au_nu]; omega)⟩ ?_
        refine w_iload (pc' := 91) dX1_shown_89 rfl rfl ?_
        -- at 91: .invokestatic 160
        try simp (decide := true) only [au_1, nu_2, au_lt, nu_lt, aw_e, nw_e, au_s, au_n, nu_s, nu_n, au_au, nu_nu, au_nu]
        refine w_callS1 (pc' := 94) (mc := 0) (ms := 0) dX1_shown_91 rfl tX1_moveOf q1356 q1355 rfl (Nat.le_of_ble_eq_true rfl) (Nat.le_of_ble_eq_true rfl) ?_
        refine c_X1_moveOf ?_
        refine w_p1 ?_
        refine w_iadd (pc' := 95) dX1_shown_94 rfl ⟨by first | omega | (simp (decide := true) only [au_1, nu_2, au_lt, nu_lt, aw_e, nw_e, au_s, au_n, nu_s, nu_n, au_au, nu_nu, au_nu]; omega), by first | omega | (simp (decide := true) only [au_1, nu_2, au_lt, nu_lt, aw_e, nw_e, au_s, au_n, nu_s, nu_n, au_au, nu_nu, au_nu]; omega)⟩ ?_
        -- at 95: .ireturn
        try simp (decide := true) only [au_1, nu_2, au_lt, nu_lt, aw_e, nw_e, au_s, au_n, nu_s, nu_n, au_au, nu_nu, au_nu]
        refine w_ireturn dX1_shown_95 rfl ?_
        rw [show 8 * kOf c + mOf c = c - 1 by unfold kOf mOf; omega]
        exact h
      · refine w_iconst (pc' := 78) dX1_shown_77 rfl (by decide) ?_
        refine w_goto (tgt := 95) dX1_shown_78 rfl ?_
        -- at 95: .ireturn
        try simp (decide := true) only [au_1, nu_2, au_lt, nu_lt, aw_e, nw_e, au_s, au_n, nu_s, nu_n, au_au, nu_nu, au_nu]
        refine w_ireturn dX1_shown_95 rfl ?_
        rw [g2] at h
        exact h
    · rw [if_pos g] at h
      refine w_bipush (pc' := 69) dX1_shown_67 rfl (by decide +kernel) (by decide) ?_
      refine w_goto (tgt := 95) dX1_shown_69 rfl ?_
      -- at 95: .ireturn
      try simp (decide := true) only [au_1, nu_2, au_lt, nu_lt, aw_e, nw_e, au_s, au_n, nu_s, nu_n, au_au, nu_nu, au_nu]
      refine w_ireturn dX1_shown_95 rfl ?_
      exact h
  refine w_bipush (pc' := 15) dX1_shown_13 rfl (by decide +kernel) (by decide) ?_
  refine w_iload_n (pc' := 16) dX1_shown_15 rfl rfl ?_
  refine w_imul (pc' := 17) dX1_shown_16 rfl ⟨by first | omega | (simp (decide := true) only [au_1, nu_2, au_lt, nu_lt, aw_e, nw_e, au_s, au_n, nu_s, nu_n, au_au, nu_nu, au_nu]; omega), by first | omega | (simp (decide := true) only [au_1, nu_2, au_lt, nu_lt, aw_e, nw_e, au_s, au_n, nu_s, nu_n, au_au, nu_nu, au_nu]; omega)⟩ ?_
  refine w_bipush (pc' := 19) dX1_shown_17 rfl (by decide +kernel) (by decide) ?_
  refine w_iload_n (pc' := 20) dX1_shown_19 rfl rfl ?_
  refine w_imul (pc' := 21) dX1_shown_20 rfl ⟨by first | omega | (simp (decide := true) only [au_1, nu_2, au_lt, nu_lt, aw_e, nw_e, au_s, au_n, nu_s, nu_n, au_au, nu_nu, au_nu]; omega), by first | omega | (simp (decide := true) only [au_1, nu_2, au_lt, nu_lt, aw_e, nw_e, au_s, au_n, nu_s, nu_n, au_au, nu_nu, au_nu]; omega)⟩ ?_
  refine w_iadd (pc' := 22) dX1_shown_21 rfl ⟨by first | omega | (simp (decide := true) only [au_1, nu_2, au_lt, nu_lt, aw_e, nw_e, au_s, au_n, nu_s, nu_n, au_au, nu_nu, au_nu]; omega), by first | omega | (simp (decide := true) only [au_1, nu_2, au_lt, nu_lt, aw_e, nw_e, au_s, au_n, nu_s, nu_n, au_au, nu_nu, au_nu]; omega)⟩ ?_
  refine w_iload_n (pc' := 23) dX1_shown_22 rfl rfl ?_
  refine w_iadd (pc' := 24) dX1_shown_23 rfl ⟨by first | omega | (simp (decide := true) only [au_1, nu_2, au_lt, nu_lt, aw_e, nw_e, au_s, au_n, nu_s, nu_n, au_au, nu_nu, au_nu]; omega), by first | omega | (simp (decide := true) only [au_1, nu_2, au_lt, nu_lt, aw_e, nw_e, au_s, au_n, nu_s, nu_n, au_au, nu_nu, au_nu]; omega)⟩ ?_
  refine w_ist4 (pc' := 26) dX1_shown_24 rfl rfl ?_
  refine w_aload_n (pc' := 27) dX1_shown_26 rfl rfl ?_
  refine w_mga 37 (pc' := 30) dX1_shown_27 rfl fX1_94_1 rfl ?_
  refine w_iload (pc' := 32) dX1_shown_30 rfl rfl ?_
  refine w_mild (pc' := 33) dX1_shown_32 rfl rfl (by first | omega | (simp (decide := true) only [au_1, nu_2, au_lt, nu_lt, aw_e, nw_e, au_s, au_n, nu_s, nu_n, au_au, nu_nu, au_nu]; omega)) (by first | omega | (simp (decide := true) only [au_1, nu_2, au_lt, nu_lt, aw_e, nw_e, au_s, au_n, nu_s, nu_n, au_au, nu_nu, au_nu]; omega)) ?_
  -- at 33: .ifCond .le 13
  try simp (decide := true) only [au_1, nu_2, au_lt, nu_lt, aw_e, nw_e, au_s, au_n, nu_s, nu_n, au_au, nu_nu, au_nu]
  refine w_if_le (pc' := 36) (tgt := 46) dX1_shown_33 rfl rfl (fun g => ?_) (fun g => ?_)
  · refine w_aload_n (pc' := 47) dX1_shown_46 rfl rfl ?_
    refine w_mga 38 (pc' := 50) dX1_shown_47 rfl fX1_97_1 rfl ?_
    refine w_iload (pc' := 52) dX1_shown_50 rfl rfl ?_
    refine w_mild (pc' := 53) dX1_shown_52 rfl rfl (by first | omega | (simp (decide := true) only [au_1, nu_2, au_lt, nu_lt, aw_e, nw_e, au_s, au_n, nu_s, nu_n, au_au, nu_nu, au_nu]; omega)) (by first | omega | (simp (decide := true) only [au_1, nu_2, au_lt, nu_lt, aw_e, nw_e, au_s, au_n, nu_s, nu_n, au_au, nu_nu, au_nu]; omega)) ?_
    -- at 53: .istore 5
    try simp (decide := true) only [au_1, nu_2, au_lt, nu_lt, aw_e, nw_e, au_s, au_n, nu_s, nu_n, au_au, nu_nu, au_nu]
    exact fin _ (by rw [if_neg (by omega)])
  · refine w_aload_n (pc' := 37) dX1_shown_36 rfl rfl ?_
    refine w_mga 37 (pc' := 40) dX1_shown_37 rfl fX1_94_1 rfl ?_
    refine w_iload (pc' := 42) dX1_shown_40 rfl rfl ?_
    refine w_mild (pc' := 43) dX1_shown_42 rfl rfl (by first | omega | (simp (decide := true) only [au_1, nu_2, au_lt, nu_lt, aw_e, nw_e, au_s, au_n, nu_s, nu_n, au_au, nu_nu, au_nu]; omega)) (by first | omega | (simp (decide := true) only [au_1, nu_2, au_lt, nu_lt, aw_e, nw_e, au_s, au_n, nu_s, nu_n, au_au, nu_nu, au_nu]; omega)) ?_
    refine w_goto (tgt := 53) dX1_shown_43 rfl ?_
    -- at 53: .istore 5
    try simp (decide := true) only [au_1, nu_2, au_lt, nu_lt, aw_e, nw_e, au_s, au_n, nu_s, nu_n, au_au, nu_nu, au_nu]
    exact fin _ (by rw [if_pos (by omega)])
theorem c_X1_lyingAt {i j : Int} (hF : fo1 σ) (hf : 0 ≤ σ.1 42 ∧ σ.1 42 < σ.1 40) (h : K (some (xI (lyB σ (σ.1 42) (σ.2 44) i j))) (ov σ G0)) : tvW mX1_lyingAt d K 0 [some (xR mR), some (xI i), some (xI j), none] [] (ov σ G0) bc bs := by
  unfold lyB at h
  have hF1 := hF.1
  obtain ⟨hR, hC, ht, -⟩ := hF.2 _ hf.1 hf.2
  have bad : ¬ ((0 ≤ i ∧ i < σ.2 35 (σ.1 42)) ∧ 0 ≤ j ∧ j < σ.2 36 (σ.1 42)) → tvW mX1_lyingAt d K 34 [some (xR mR), some (xI i), some (xI j), none] [] (ov σ G0) bc bs := by
    intro q
    rw [if_neg q] at h
    refine w_iconst (pc' := 35) dX1_lyingAt_34 rfl (by decide) ?_
    -- at 35: .ireturn
    try simp (decide := true) only [au_1, nu_2, au_lt, nu_lt, aw_e, nw_e, au_s, au_n, nu_s, nu_n, au_au, nu_nu, au_nu]
    refine w_ireturn dX1_lyingAt_35 rfl ?_
    exact h
  refine w_iload_n (pc' := 1) dX1_lyingAt_0 rfl rfl ?_
  refine w_if_lt (pc' := 4) (tgt := 34) dX1_lyingAt_1 rfl rfl (fun g1 => by exact bad (by omega)) (fun g1 => ?_)
  refine w_iload_n (pc' := 5) dX1_lyingAt_4 rfl rfl ?_
  refine w_if_lt (pc' := 8) (tgt := 34) dX1_lyingAt_5 rfl rfl (fun g5 => by exact bad (by omega)) (fun g5 => ?_)
  refine w_iload_n (pc' := 9) dX1_lyingAt_8 rfl rfl ?_
  refine w_aload_n (pc' := 10) dX1_lyingAt_9 rfl rfl ?_
  refine w_mga 35 (pc' := 13) dX1_lyingAt_10 rfl fX1_88_1 rfl ?_
  refine w_aload_n (pc' := 14) dX1_lyingAt_13 rfl rfl ?_
  refine w_mgi 42 (pc' := 17) dX1_lyingAt_14 rfl fX1_294_1 rfl ?_
  refine w_mild (pc' := 18) dX1_lyingAt_17 rfl rfl (by first | omega | (simp (decide := true) only [au_1, nu_2, au_lt, nu_lt, aw_e, nw_e, au_s, au_n, nu_s, nu_n, au_au, nu_nu, au_nu]; omega)) (by first | omega | (simp (decide := true) only [au_1, nu_2, au_lt, nu_lt, aw_e, nw_e, au_s, au_n, nu_s, nu_n, au_au, nu_nu, au_nu]; omega)) ?_
  refine w_icmp_ge (pc' := 21) (tgt := 34) dX1_lyingAt_18 rfl rfl (fun g18 => by exact bad (by omega)) (fun g18 => ?_)
  refine w_iload_n (pc' := 22) dX1_lyingAt_21 rfl rfl ?_
  refine w_aload_n (pc' := 23) dX1_lyingAt_22 rfl rfl ?_
  refine w_mga 36 (pc' := 26) dX1_lyingAt_23 rfl fX1_91_1 rfl ?_
  refine w_aload_n (pc' := 27) dX1_lyingAt_26 rfl rfl ?_
  refine w_mgi 42 (pc' := 30) dX1_lyingAt_27 rfl fX1_294_1 rfl ?_
  refine w_mild (pc' := 31) dX1_lyingAt_30 rfl rfl (by first | omega | (simp (decide := true) only [au_1, nu_2, au_lt, nu_lt, aw_e, nw_e, au_s, au_n, nu_s, nu_n, au_au, nu_nu, au_nu]; omega)) (by first | omega | (simp (decide := true) only [au_1, nu_2, au_lt, nu_lt, aw_e, nw_e, au_s, au_n, nu_s, nu_n, au_au, nu_nu, au_nu]; omega)) ?_
  refine w_icmp_lt (pc' := 34) (tgt := 36) dX1_lyingAt_31 rfl rfl (fun g31 => ?_) (fun g31 => by exact bad (by omega))
  -- at 36: .aload_n 0
  rw [if_pos (by omega)] at h
  refine w_aload_n (pc' := 37) dX1_lyingAt_36 rfl rfl ?_
  refine w_mga 37 (pc' := 40) dX1_lyingAt_37 rfl fX1_94_1 rfl ?_
  refine w_bipush (pc' := 42) dX1_lyingAt_40 rfl (by decide +kernel) (by decide) ?_
  refine w_aload_n (pc' := 43) dX1_lyingAt_42 rfl rfl ?_
  refine w_mgi 42 (pc' := 46) dX1_lyingAt_43 rfl fX1_294_1 rfl ?_
  refine w_imul (pc' := 47) dX1_lyingAt_46 rfl ⟨by first | omega | (simp (decide := true) only [au_1, nu_2, au_lt, nu_lt, aw_e, nw_e, au_s, au_n, nu_s, nu_n, au_au, nu_nu, au_nu]; omega), by first | omega | (simp (decide := true) only [au_1, nu_2, au_lt, nu_lt, aw_e, nw_e, au_s, au_n, nu_s, nu_n, au_au, nu_nu, au_nu]; omega)⟩ ?_
  refine w_bipush (pc' := 49) dX1_lyingAt_47 rfl (by decide +kernel) (by decide) ?_
  refine w_iload_n (pc' := 50) dX1_lyingAt_49 rfl rfl ?_
  refine w_imul (pc' := 51) dX1_lyingAt_50 rfl ⟨by first | omega | (simp (decide := true) only [au_1, nu_2, au_lt, nu_lt, aw_e, nw_e, au_s, au_n, nu_s, nu_n, au_au, nu_nu, au_nu]; omega), by first | omega | (simp (decide := true) only [au_1, nu_2, au_lt, nu_lt, aw_e, nw_e, au_s, au_n, nu_s, nu_n, au_au, nu_nu, au_nu]; omega)⟩ ?_
  refine w_iadd (pc' := 52) dX1_lyingAt_51 rfl ⟨by first | omega | (simp (decide := true) only [au_1, nu_2, au_lt, nu_lt, aw_e, nw_e, au_s, au_n, nu_s, nu_n, au_au, nu_nu, au_nu]; omega), by first | omega | (simp (decide := true) only [au_1, nu_2, au_lt, nu_lt, aw_e, nw_e, au_s, au_n, nu_s, nu_n, au_au, nu_nu, au_nu]; omega)⟩ ?_
  refine w_iload_n (pc' := 53) dX1_lyingAt_52 rfl rfl ?_
  refine w_iadd (pc' := 54) dX1_lyingAt_53 rfl ⟨by first | omega | (simp (decide := true) only [au_1, nu_2, au_lt, nu_lt, aw_e, nw_e, au_s, au_n, nu_s, nu_n, au_au, nu_nu, au_nu]; omega), by first | omega | (simp (decide := true) only [au_1, nu_2, au_lt, nu_lt, aw_e, nw_e, au_s, au_n, nu_s, nu_n, au_au, nu_nu, au_nu]; omega)⟩ ?_
  refine w_mild (pc' := 55) dX1_lyingAt_54 rfl rfl (by first | omega | (simp (decide := true) only [au_1, nu_2, au_lt, nu_lt, aw_e, nw_e, au_s, au_n, nu_s, nu_n, au_au, nu_nu, au_nu]; omega)) (by first | omega | (simp (decide := true) only [au_1, nu_2, au_lt, nu_lt, aw_e, nw_e, au_s, au_n, nu_s, nu_n, au_au, nu_nu, au_nu]; omega)) ?_
  refine w_ist3 (pc' := 56) dX1_lyingAt_55 rfl rfl ?_
  refine w_iload_n (pc' := 57) dX1_lyingAt_56 rfl rfl ?_
  -- at 57: .ifCond .le 7
  try simp (decide := true) only [au_1, nu_2, au_lt, nu_lt, aw_e, nw_e, au_s, au_n, nu_s, nu_n, au_au, nu_nu, au_nu]
  refine w_if_le (pc' := 60) (tgt := 64) dX1_lyingAt_57 rfl rfl (fun g => ?_) (fun g => ?_)
  · rw [if_neg (by omega)] at h
    refine w_iload_n (pc' := 65) dX1_lyingAt_64 rfl rfl ?_
    refine w_bipush (pc' := 67) dX1_lyingAt_65 rfl (by decide +kernel) (by decide) ?_
    -- at 67: .if_icmp .ne 7
    try simp (decide := true) only [au_1, nu_2, au_lt, nu_lt, aw_e, nw_e, au_s, au_n, nu_s, nu_n, au_au, nu_nu, au_nu]
    refine w_icmp_ne (pc' := 70) (tgt := 74) dX1_lyingAt_67 rfl rfl (fun g2 => ?_) (fun g2 => ?_)
    · rw [if_neg g2] at h
      refine w_aload_n (pc' := 75) dX1_lyingAt_74 rfl rfl ?_
      refine w_mga 44 (pc' := 78) dX1_lyingAt_75 rfl fX1_103_1 rfl ?_
      refine w_bipush (pc' := 80) dX1_lyingAt_78 rfl (by decide +kernel) (by decide) ?_
      refine w_iload_n (pc' := 81) dX1_lyingAt_80 rfl rfl ?_
      refine w_imul (pc' := 82) dX1_lyingAt_81 rfl ⟨by first | omega | (simp (decide := true) only [au_1, nu_2, au_lt, nu_lt, aw_e, nw_e, au_s, au_n, nu_s, nu_n, au_au, nu_nu, au_nu]; omega), by first | omega | (simp (decide := true) only [au_1, nu_2, au_lt, nu_lt, aw_e, nw_e, au_s, au_n, nu_s, nu_n, au_au, nu_nu, au_nu]; omega)⟩ ?_
      refine w_iload_n (pc' := 83) dX1_lyingAt_82 rfl rfl ?_
      refine w_iadd (pc' := 84) dX1_lyingAt_83 rfl ⟨by first | omega | (simp (decide := true) only [au_1, nu_2, au_lt, nu_lt, aw_e, nw_e, au_s, au_n, nu_s, nu_n, au_au, nu_nu, au_nu]; omega), by first | omega | (simp (decide := true) only [au_1, nu_2, au_lt, nu_lt, aw_e, nw_e, au_s, au_n, nu_s, nu_n, au_au, nu_nu, au_nu]; omega)⟩ ?_
      refine w_mild (pc' := 85) dX1_lyingAt_84 rfl rfl (by first | omega | (simp (decide := true) only [au_1, nu_2, au_lt, nu_lt, aw_e, nw_e, au_s, au_n, nu_s, nu_n, au_au, nu_nu, au_nu]; omega)) (by first | omega | (simp (decide := true) only [au_1, nu_2, au_lt, nu_lt, aw_e, nw_e, au_s, au_n, nu_s, nu_n, au_au, nu_nu, au_nu]; omega)) ?_
      -- at 85: .ireturn
      try simp (decide := true) only [au_1, nu_2, au_lt, nu_lt, aw_e, nw_e, au_s, au_n, nu_s, nu_n, au_au, nu_nu, au_nu]
      refine w_ireturn dX1_lyingAt_85 rfl ?_
      exact h
    · rw [if_pos g2] at h
      refine w_iconst (pc' := 71) dX1_lyingAt_70 rfl (by decide) ?_
      refine w_goto (tgt := 85) dX1_lyingAt_71 rfl ?_
      -- at 85: .ireturn
      try simp (decide := true) only [au_1, nu_2, au_lt, nu_lt, aw_e, nw_e, au_s, au_n, nu_s, nu_n, au_au, nu_nu, au_nu]
      refine w_ireturn dX1_lyingAt_85 rfl ?_
      exact h
  · rw [if_pos (by omega)] at h
    refine w_iload_n (pc' := 61) dX1_lyingAt_60 rfl rfl ?_
    refine w_goto (tgt := 85) dX1_lyingAt_61 rfl ?_
    -- at 85: .ireturn
    try simp (decide := true) only [au_1, nu_2, au_lt, nu_lt, aw_e, nw_e, au_s, au_n, nu_s, nu_n, au_au, nu_nu, au_nu]
    refine w_ireturn dX1_lyingAt_85 rfl ?_
    exact h
theorem c_X1_mayLie {pl c : Int} (hK : kok σ) (hF : fo1 σ) (hf : 0 ≤ σ.1 42 ∧ σ.1 42 < σ.1 40) (hb : bok σ (σ.1 42) (σ.2 44)) (hp : 0 ≤ pl ∧ pl < 64) (hc : isC (σ.1 5) c) (h1 : mlB σ (σ.1 42) (σ.2 44) pl c → K (some (xI 1)) (ov σ G0)) (h0 : ¬ mlB σ (σ.1 42) (σ.2 44) pl c → K (some (xI 0)) (ov σ G0)) : tvW mX1_mayLie (d + 2) K 0 [some (xR mR), some (xI pl), some (xI c), none, none] [] (ov σ G0) bc bs := by
  have no : ¬ mlB σ (σ.1 42) (σ.2 44) pl c → tvW mX1_mayLie (d + 2) K 87 [some (xR mR), some (xI pl), some (xI c), some (xI (pl / 8)), some (xI (pl % 8))] [] (ov σ G0) bc bs := by
    intro q
    refine w_iconst (pc' := 88) dX1_mayLie_87 rfl (by decide) ?_
    -- at 88: .ireturn
    try simp (decide := true) only [au_1, nu_2, au_lt, nu_lt, aw_e, nw_e, au_s, au_n, nu_s, nu_n, au_au, nu_nu, au_nu]
    refine w_zreturn dX1_mayLie_88 rfl (by first | exact Or.inl rfl | exact Or.inr rfl | omega) ?_
    exact h0 q
  have hl : ∀ i j, isC (σ.1 5) (lyB σ (σ.1 42) (σ.2 44) i j) := fun i j => lyB_ok hK hF hf hb
  refine w_iload_n (pc' := 1) dX1_mayLie_0 rfl rfl ?_
  refine w_bipush (pc' := 3) dX1_mayLie_1 rfl (by decide +kernel) (by decide) ?_
  refine w_idiv (pc' := 4) dX1_mayLie_3 rfl (by first | omega | (simp (decide := true) only [au_1, nu_2, au_lt, nu_lt, aw_e, nw_e, au_s, au_n, nu_s, nu_n, au_au, nu_nu, au_nu]; omega)) (by first | omega | (simp (decide := true) only [au_1, nu_2, au_lt, nu_lt, aw_e, nw_e, au_s, au_n, nu_s, nu_n, au_au, nu_nu, au_nu]; omega)) ?_
  refine w_ist3 (pc' := 5) dX1_mayLie_4 rfl rfl ?_
  refine w_iload_n (pc' := 6) dX1_mayLie_5 rfl rfl ?_
  refine w_bipush (pc' := 8) dX1_mayLie_6 rfl (by decide +kernel) (by decide) ?_
  refine w_irem (pc' := 9) dX1_mayLie_8 rfl (by first | omega | (simp (decide := true) only [au_1, nu_2, au_lt, nu_lt, aw_e, nw_e, au_s, au_n, nu_s, nu_n, au_au, nu_nu, au_nu]; omega)) (by first | omega | (simp (decide := true) only [au_1, nu_2, au_lt, nu_lt, aw_e, nw_e, au_s, au_n, nu_s, nu_n, au_au, nu_nu, au_nu]; omega)) ?_
  refine w_ist4 (pc' := 11) dX1_mayLie_9 rfl rfl ?_
  refine w_aload_n (pc' := 12) dX1_mayLie_11 rfl rfl ?_
  refine w_iload_n (pc' := 13) dX1_mayLie_12 rfl rfl ?_
  refine w_aload_n (pc' := 14) dX1_mayLie_13 rfl rfl ?_
  refine w_iload_n (pc' := 15) dX1_mayLie_14 rfl rfl ?_
  refine w_iconst (pc' := 16) dX1_mayLie_15 rfl (by decide) ?_
  refine w_isub (pc' := 17) dX1_mayLie_16 rfl ⟨by first | omega | (simp (decide := true) only [au_1, nu_2, au_lt, nu_lt, aw_e, nw_e, au_s, au_n, nu_s, nu_n, au_au, nu_nu, au_nu]; omega), by first | omega | (simp (decide := true) only [au_1, nu_2, au_lt, nu_lt, aw_e, nw_e, au_s, au_n, nu_s, nu_n, au_au, nu_nu, au_nu]; omega)⟩ ?_
  refine w_iload (pc' := 19) dX1_mayLie_17 rfl rfl ?_
  -- at 19: .invokevirtual 297
  try simp (decide := true) only [au_1, nu_2, au_lt, nu_lt, aw_e, nw_e, au_s, au_n, nu_s, nu_n, au_au, nu_nu, au_nu]
  refine w_callV2 (pc' := 22) (mc := 0) (ms := 0) dX1_mayLie_19 rfl tX1_lyingAt q1525 rfl rfl qs69 q1523 ov_o rfl (Nat.le_of_ble_eq_true rfl) (Nat.le_of_ble_eq_true rfl) ?_
  refine c_X1_lyingAt hF hf ?_
  refine w_p1 ?_
  refine w_iconst (pc' := 23) dX1_mayLie_22 rfl (by decide) ?_
  -- at 23: .invokevirtual 263
  try simp (decide := true) only [au_1, nu_2, au_lt, nu_lt, aw_e, nw_e, au_s, au_n, nu_s, nu_n, au_au, nu_nu, au_nu]
  refine w_callV3 (pc' := 26) (mc := 0) (ms := 0) dX1_mayLie_23 rfl tX1_fit q1445 rfl rfl qs58 q1443 ov_o rfl (Nat.le_of_ble_eq_true rfl) (Nat.le_of_ble_eq_true rfl) ?_
  refine c_X1_fit hK hc (hl _ _) ⟨by omega, by omega⟩ (fun q0 => w_p1 ?_) (fun q => w_p1 ?_)
  · refine w_if_eq (pc' := 29) (tgt := 87) dX1_mayLie_26 rfl rfl (fun h_ => False.elim (by first | omega | (simp (decide := true) only [au_1, nu_2, au_lt, nu_lt, aw_e, nw_e, au_s, au_n, nu_s, nu_n, au_au, nu_nu, au_nu] at h_; omega))) (fun h_ => ?_)
    refine w_aload_n (pc' := 30) dX1_mayLie_29 rfl rfl ?_
    refine w_iload_n (pc' := 31) dX1_mayLie_30 rfl rfl ?_
    refine w_aload_n (pc' := 32) dX1_mayLie_31 rfl rfl ?_
    refine w_iload_n (pc' := 33) dX1_mayLie_32 rfl rfl ?_
    refine w_iload (pc' := 35) dX1_mayLie_33 rfl rfl ?_
    refine w_iconst (pc' := 36) dX1_mayLie_35 rfl (by decide) ?_
    refine w_iadd (pc' := 37) dX1_mayLie_36 rfl ⟨by first | omega | (simp (decide := true) only [au_1, nu_2, au_lt, nu_lt, aw_e, nw_e, au_s, au_n, nu_s, nu_n, au_au, nu_nu, au_nu]; omega), by first | omega | (simp (decide := true) only [au_1, nu_2, au_lt, nu_lt, aw_e, nw_e, au_s, au_n, nu_s, nu_n, au_au, nu_nu, au_nu]; omega)⟩ ?_
    -- at 37: .invokevirtual 297
    try simp (decide := true) only [au_1, nu_2, au_lt, nu_lt, aw_e, nw_e, au_s, au_n, nu_s, nu_n, au_au, nu_nu, au_nu]
    refine w_callV2 (pc' := 40) (mc := 0) (ms := 0) dX1_mayLie_37 rfl tX1_lyingAt q1525 rfl rfl qs69 q1523 ov_o rfl (Nat.le_of_ble_eq_true rfl) (Nat.le_of_ble_eq_true rfl) ?_
    refine c_X1_lyingAt hF hf ?_
    refine w_p1 ?_
    refine w_iconst (pc' := 41) dX1_mayLie_40 rfl (by decide) ?_
    -- at 41: .invokevirtual 263
    try simp (decide := true) only [au_1, nu_2, au_lt, nu_lt, aw_e, nw_e, au_s, au_n, nu_s, nu_n, au_au, nu_nu, au_nu]
    refine w_callV3 (pc' := 44) (mc := 0) (ms := 0) dX1_mayLie_41 rfl tX1_fit q1445 rfl rfl qs58 q1443 ov_o rfl (Nat.le_of_ble_eq_true rfl) (Nat.le_of_ble_eq_true rfl) ?_
    refine c_X1_fit hK hc (hl _ _) ⟨by omega, by omega⟩ (fun q1 => w_p1 ?_) (fun q => w_p1 ?_)
    · refine w_if_eq (pc' := 47) (tgt := 87) dX1_mayLie_44 rfl rfl (fun h_ => False.elim (by first | omega | (simp (decide := true) only [au_1, nu_2, au_lt, nu_lt, aw_e, nw_e, au_s, au_n, nu_s, nu_n, au_au, nu_nu, au_nu] at h_; omega))) (fun h_ => ?_)
      refine w_aload_n (pc' := 48) dX1_mayLie_47 rfl rfl ?_
      refine w_iload_n (pc' := 49) dX1_mayLie_48 rfl rfl ?_
      refine w_aload_n (pc' := 50) dX1_mayLie_49 rfl rfl ?_
      refine w_iload_n (pc' := 51) dX1_mayLie_50 rfl rfl ?_
      refine w_iconst (pc' := 52) dX1_mayLie_51 rfl (by decide) ?_
      refine w_iadd (pc' := 53) dX1_mayLie_52 rfl ⟨by first | omega | (simp (decide := true) only [au_1, nu_2, au_lt, nu_lt, aw_e, nw_e, au_s, au_n, nu_s, nu_n, au_au, nu_nu, au_nu]; omega), by first | omega | (simp (decide := true) only [au_1, nu_2, au_lt, nu_lt, aw_e, nw_e, au_s, au_n, nu_s, nu_n, au_au, nu_nu, au_nu]; omega)⟩ ?_
      refine w_iload (pc' := 55) dX1_mayLie_53 rfl rfl ?_
      -- at 55: .invokevirtual 297
      try simp (decide := true) only [au_1, nu_2, au_lt, nu_lt, aw_e, nw_e, au_s, au_n, nu_s, nu_n, au_au, nu_nu, au_nu]
      refine w_callV2 (pc' := 58) (mc := 0) (ms := 0) dX1_mayLie_55 rfl tX1_lyingAt q1525 rfl rfl qs69 q1523 ov_o rfl (Nat.le_of_ble_eq_true rfl) (Nat.le_of_ble_eq_true rfl) ?_
      refine c_X1_lyingAt hF hf ?_
      refine w_p1 ?_
      refine w_iconst (pc' := 59) dX1_mayLie_58 rfl (by decide) ?_
      -- at 59: .invokevirtual 263
      try simp (decide := true) only [au_1, nu_2, au_lt, nu_lt, aw_e, nw_e, au_s, au_n, nu_s, nu_n, au_au, nu_nu, au_nu]
      refine w_callV3 (pc' := 62) (mc := 0) (ms := 0) dX1_mayLie_59 rfl tX1_fit q1445 rfl rfl qs58 q1443 ov_o rfl (Nat.le_of_ble_eq_true rfl) (Nat.le_of_ble_eq_true rfl) ?_
      refine c_X1_fit hK hc (hl _ _) ⟨by omega, by omega⟩ (fun q2 => w_p1 ?_) (fun q => w_p1 ?_)
      · refine w_if_eq (pc' := 65) (tgt := 87) dX1_mayLie_62 rfl rfl (fun h_ => False.elim (by first | omega | (simp (decide := true) only [au_1, nu_2, au_lt, nu_lt, aw_e, nw_e, au_s, au_n, nu_s, nu_n, au_au, nu_nu, au_nu] at h_; omega))) (fun h_ => ?_)
        refine w_aload_n (pc' := 66) dX1_mayLie_65 rfl rfl ?_
        refine w_iload_n (pc' := 67) dX1_mayLie_66 rfl rfl ?_
        refine w_aload_n (pc' := 68) dX1_mayLie_67 rfl rfl ?_
        refine w_iload_n (pc' := 69) dX1_mayLie_68 rfl rfl ?_
        refine w_iload (pc' := 71) dX1_mayLie_69 rfl rfl ?_
        refine w_iconst (pc' := 72) dX1_mayLie_71 rfl (by decide) ?_
        refine w_isub (pc' := 73) dX1_mayLie_72 rfl ⟨by first | omega | (simp (decide := true) only [au_1, nu_2, au_lt, nu_lt, aw_e, nw_e, au_s, au_n, nu_s, nu_n, au_au, nu_nu, au_nu]; omega), by first | omega | (simp (decide := true) only [au_1, nu_2, au_lt, nu_lt, aw_e, nw_e, au_s, au_n, nu_s, nu_n, au_au, nu_nu, au_nu]; omega)⟩ ?_
        -- at 73: .invokevirtual 297
        try simp (decide := true) only [au_1, nu_2, au_lt, nu_lt, aw_e, nw_e, au_s, au_n, nu_s, nu_n, au_au, nu_nu, au_nu]
        refine w_callV2 (pc' := 76) (mc := 0) (ms := 0) dX1_mayLie_73 rfl tX1_lyingAt q1525 rfl rfl qs69 q1523 ov_o rfl (Nat.le_of_ble_eq_true rfl) (Nat.le_of_ble_eq_true rfl) ?_
        refine c_X1_lyingAt hF hf ?_
        refine w_p1 ?_
        refine w_iconst (pc' := 77) dX1_mayLie_76 rfl (by decide) ?_
        -- at 77: .invokevirtual 263
        try simp (decide := true) only [au_1, nu_2, au_lt, nu_lt, aw_e, nw_e, au_s, au_n, nu_s, nu_n, au_au, nu_nu, au_nu]
        refine w_callV3 (pc' := 80) (mc := 0) (ms := 0) dX1_mayLie_77 rfl tX1_fit q1445 rfl rfl qs58 q1443 ov_o rfl (Nat.le_of_ble_eq_true rfl) (Nat.le_of_ble_eq_true rfl) ?_
        refine c_X1_fit hK hc (hl _ _) ⟨by omega, by omega⟩ (fun q3 => w_p1 ?_) (fun q => w_p1 ?_)
        · refine w_if_eq (pc' := 83) (tgt := 87) dX1_mayLie_80 rfl rfl (fun h_ => False.elim (by first | omega | (simp (decide := true) only [au_1, nu_2, au_lt, nu_lt, aw_e, nw_e, au_s, au_n, nu_s, nu_n, au_au, nu_nu, au_nu] at h_; omega))) (fun h_ => ?_)
          refine w_iconst (pc' := 84) dX1_mayLie_83 rfl (by decide) ?_
          refine w_goto (tgt := 88) dX1_mayLie_84 rfl ?_
          -- at 88: .ireturn
          try simp (decide := true) only [au_1, nu_2, au_lt, nu_lt, aw_e, nw_e, au_s, au_n, nu_s, nu_n, au_au, nu_nu, au_nu]
          refine w_zreturn dX1_mayLie_88 rfl (by first | exact Or.inl rfl | exact Or.inr rfl | omega) ?_
          exact h1 ⟨q0, q1, q2, q3⟩
        · refine w_if_eq (pc' := 83) (tgt := 87) dX1_mayLie_80 rfl rfl (fun h_ => ?_) (fun h_ => False.elim (by first | omega | (simp (decide := true) only [au_1, nu_2, au_lt, nu_lt, aw_e, nw_e, au_s, au_n, nu_s, nu_n, au_au, nu_nu, au_nu] at h_; omega)))
          exact no (fun z => q z.2.2.2)
      · refine w_if_eq (pc' := 65) (tgt := 87) dX1_mayLie_62 rfl rfl (fun h_ => ?_) (fun h_ => False.elim (by first | omega | (simp (decide := true) only [au_1, nu_2, au_lt, nu_lt, aw_e, nw_e, au_s, au_n, nu_s, nu_n, au_au, nu_nu, au_nu] at h_; omega)))
        exact no (fun z => q z.2.2.1)
    · refine w_if_eq (pc' := 47) (tgt := 87) dX1_mayLie_44 rfl rfl (fun h_ => ?_) (fun h_ => False.elim (by first | omega | (simp (decide := true) only [au_1, nu_2, au_lt, nu_lt, aw_e, nw_e, au_s, au_n, nu_s, nu_n, au_au, nu_nu, au_nu] at h_; omega)))
      exact no (fun z => q z.2.1)
  · refine w_if_eq (pc' := 29) (tgt := 87) dX1_mayLie_26 rfl rfl (fun h_ => ?_) (fun h_ => False.elim (by first | omega | (simp (decide := true) only [au_1, nu_2, au_lt, nu_lt, aw_e, nw_e, au_s, au_n, nu_s, nu_n, au_au, nu_nu, au_nu] at h_; omega)))
    exact no (fun z => q z.1)
theorem c_X1_nextFitting {pl fr : Int} (hK : kok σ) (hF : fo1 σ) (hf : 0 ≤ σ.1 42 ∧ σ.1 42 < σ.1 40) (hb : bok σ (σ.1 42) (σ.2 44)) (hp : 0 ≤ pl ∧ pl < 64) (hfr : 0 ≤ fr ∧ fr ≤ 8 * σ.1 5) (h1 : ∀ n, fr ≤ n → n < 8 * σ.1 5 → cdB σ (σ.1 42) (σ.2 44) (σ.2 45) pl n → (∀ n', fr ≤ n' → n' < n → ¬ cdB σ (σ.1 42) (σ.2 44) (σ.2 45) pl n') → K (some (xI n)) (ov σ G0)) (h0 : (∀ n', fr ≤ n' → n' < 8 * σ.1 5 → ¬ cdB σ (σ.1 42) (σ.2 44) (σ.2 45) pl n') → K (some (xI (-1))) (ov σ G0)) : tvW mX1_nextFitting (d + 3) K 0 [some (xR mR), some (xI pl), some (xI fr), none, none] [] (ov σ G0) bc bs := by
  have hK1 := hK.1
  refine w_iload_n (pc' := 1) dX1_nextFitting_0 rfl rfl ?_
  refine w_ist3 (pc' := 2) dX1_nextFitting_1 rfl rfl ?_
  -- at 2: .iload_n 3
  try simp (decide := true) only [au_1, nu_2, au_lt, nu_lt, aw_e, nw_e, au_s, au_n, nu_s, nu_n, au_au, nu_nu, au_nu]
  refine up (T := fun n => ∀ x4, fr ≤ n → (∀ n', fr ≤ n' → n' < n → ¬ cdB σ (σ.1 42) (σ.2 44) (σ.2 45) pl n') → tvW mX1_nextFitting (d + 3) K 2 [some (xR mR), some (xI pl), some (xI fr), some (xI n), x4] [] (ov σ G0) bc bs) (a := fr) (8 * σ.1 5) hfr.2 (fun x4 _ hn => ?_) (fun n n0 n1 ih x4 _ hn => ?_) _ (by omega) (fun n' a b => by omega)
  · refine w_iload_n (pc' := 3) dX1_nextFitting_2 rfl rfl ?_
    refine w_bipush (pc' := 5) dX1_nextFitting_3 rfl (by decide +kernel) (by decide) ?_
    refine w_aload_n (pc' := 6) dX1_nextFitting_5 rfl rfl ?_
    refine w_mgi 5 (pc' := 9) dX1_nextFitting_6 rfl fX1_128_1 rfl ?_
    refine w_imul (pc' := 10) dX1_nextFitting_9 rfl ⟨by first | omega | (simp (decide := true) only [au_1, nu_2, au_lt, nu_lt, aw_e, nw_e, au_s, au_n, nu_s, nu_n, au_au, nu_nu, au_nu]; omega), by first | omega | (simp (decide := true) only [au_1, nu_2, au_lt, nu_lt, aw_e, nw_e, au_s, au_n, nu_s, nu_n, au_au, nu_nu, au_nu]; omega)⟩ ?_
    -- at 10: .if_icmp .ge 62
    try simp (decide := true) only [au_1, nu_2, au_lt, nu_lt, aw_e, nw_e, au_s, au_n, nu_s, nu_n, au_au, nu_nu, au_nu]
    refine w_icmp_ge (pc' := 13) (tgt := 72) dX1_nextFitting_10 rfl rfl (fun h_ => ?_) (fun h_ => False.elim (by first | omega | (simp (decide := true) only [au_1, nu_2, au_lt, nu_lt, aw_e, nw_e, au_s, au_n, nu_s, nu_n, au_au, nu_nu, au_nu] at h_; omega)))
    refine w_iconst (pc' := 73) dX1_nextFitting_72 rfl (by decide) ?_
    -- at 73: .ireturn
    try simp (decide := true) only [au_1, nu_2, au_lt, nu_lt, aw_e, nw_e, au_s, au_n, nu_s, nu_n, au_au, nu_nu, au_nu]
    refine w_ireturn dX1_nextFitting_73 rfl ?_
    exact h0 hn
  · have hkn : 0 ≤ n / 8 ∧ n / 8 < σ.1 5 := by omega
    obtain ⟨-, ht, -⟩ := hK.2 _ hkn.1 hkn.2
    have next : ¬ cdB σ (σ.1 42) (σ.2 44) (σ.2 45) pl n → ∀ x4, tvW mX1_nextFitting (d + 3) K 66 [some (xR mR), some (xI pl), some (xI fr), some (xI n), x4] [] (ov σ G0) bc bs := by
      intro q x4
      refine w_inc3 (pc' := 69) dX1_nextFitting_66 rfl rfl ⟨by first | omega | (simp (decide := true) only [au_1, nu_2, au_lt, nu_lt, aw_e, nw_e, au_s, au_n, nu_s, nu_n, au_au, nu_nu, au_nu]; omega), by first | omega | (simp (decide := true) only [au_1, nu_2, au_lt, nu_lt, aw_e, nw_e, au_s, au_n, nu_s, nu_n, au_au, nu_nu, au_nu]; omega)⟩ ?_
      refine w_goto (tgt := 2) dX1_nextFitting_69 rfl ?_
      -- at 2: .iload_n 3
      try simp (decide := true) only [au_1, nu_2, au_lt, nu_lt, aw_e, nw_e, au_s, au_n, nu_s, nu_n, au_au, nu_nu, au_nu]
      refine ih _ (by omega) (fun n' q0 q1 => ?_)
      by_cases e : n' = n
      · rw [e]; exact q
      · exact hn n' q0 (by omega)
    refine w_iload_n (pc' := 3) dX1_nextFitting_2 rfl rfl ?_
    refine w_bipush (pc' := 5) dX1_nextFitting_3 rfl (by decide +kernel) (by decide) ?_
    refine w_aload_n (pc' := 6) dX1_nextFitting_5 rfl rfl ?_
    refine w_mgi 5 (pc' := 9) dX1_nextFitting_6 rfl fX1_128_1 rfl ?_
    refine w_imul (pc' := 10) dX1_nextFitting_9 rfl ⟨by first | omega | (simp (decide := true) only [au_1, nu_2, au_lt, nu_lt, aw_e, nw_e, au_s, au_n, nu_s, nu_n, au_au, nu_nu, au_nu]; omega), by first | omega | (simp (decide := true) only [au_1, nu_2, au_lt, nu_lt, aw_e, nw_e, au_s, au_n, nu_s, nu_n, au_au, nu_nu, au_nu]; omega)⟩ ?_
    -- at 10: .if_icmp .ge 62
    try simp (decide := true) only [au_1, nu_2, au_lt, nu_lt, aw_e, nw_e, au_s, au_n, nu_s, nu_n, au_au, nu_nu, au_nu]
    refine w_icmp_ge (pc' := 13) (tgt := 72) dX1_nextFitting_10 rfl rfl (fun h_ => False.elim (by first | omega | (simp (decide := true) only [au_1, nu_2, au_lt, nu_lt, aw_e, nw_e, au_s, au_n, nu_s, nu_n, au_au, nu_nu, au_nu] at h_; omega))) (fun h_ => ?_)
    refine w_iload_n (pc' := 14) dX1_nextFitting_13 rfl rfl ?_
    refine w_bipush (pc' := 16) dX1_nextFitting_14 rfl (by decide +kernel) (by decide) ?_
    refine w_idiv (pc' := 17) dX1_nextFitting_16 rfl (by first | omega | (simp (decide := true) only [au_1, nu_2, au_lt, nu_lt, aw_e, nw_e, au_s, au_n, nu_s, nu_n, au_au, nu_nu, au_nu]; omega)) (by first | omega | (simp (decide := true) only [au_1, nu_2, au_lt, nu_lt, aw_e, nw_e, au_s, au_n, nu_s, nu_n, au_au, nu_nu, au_nu]; omega)) ?_
    refine w_ist4 (pc' := 19) dX1_nextFitting_17 rfl rfl ?_
    refine w_aload_n (pc' := 20) dX1_nextFitting_19 rfl rfl ?_
    refine w_mga 45 (pc' := 23) dX1_nextFitting_20 rfl fX1_106_1 rfl ?_
    refine w_iload (pc' := 25) dX1_nextFitting_23 rfl rfl ?_
    refine w_mild (pc' := 26) dX1_nextFitting_25 rfl rfl (by first | omega | (simp (decide := true) only [au_1, nu_2, au_lt, nu_lt, aw_e, nw_e, au_s, au_n, nu_s, nu_n, au_au, nu_nu, au_nu]; omega)) (by first | omega | (simp (decide := true) only [au_1, nu_2, au_lt, nu_lt, aw_e, nw_e, au_s, au_n, nu_s, nu_n, au_au, nu_nu, au_nu]; omega)) ?_
    -- at 26: .ifCond .le 40
    try simp (decide := true) only [au_1, nu_2, au_lt, nu_lt, aw_e, nw_e, au_s, au_n, nu_s, nu_n, au_au, nu_nu, au_nu]
    refine w_if_le (pc' := 29) (tgt := 66) dX1_nextFitting_26 rfl rfl (fun g => ?_) (fun g => ?_)
    · exact next (fun z => by have := z.1; omega) _
    · refine w_aload_n (pc' := 30) dX1_nextFitting_29 rfl rfl ?_
      refine w_iload (pc' := 32) dX1_nextFitting_30 rfl rfl ?_
      refine w_iload_n (pc' := 33) dX1_nextFitting_32 rfl rfl ?_
      refine w_bipush (pc' := 35) dX1_nextFitting_33 rfl (by decide +kernel) (by decide) ?_
      refine w_irem (pc' := 36) dX1_nextFitting_35 rfl (by first | omega | (simp (decide := true) only [au_1, nu_2, au_lt, nu_lt, aw_e, nw_e, au_s, au_n, nu_s, nu_n, au_au, nu_nu, au_nu]; omega)) (by first | omega | (simp (decide := true) only [au_1, nu_2, au_lt, nu_lt, aw_e, nw_e, au_s, au_n, nu_s, nu_n, au_au, nu_nu, au_nu]; omega)) ?_
      -- at 36: .invokevirtual 148
      try simp (decide := true) only [au_1, nu_2, au_lt, nu_lt, aw_e, nw_e, au_s, au_n, nu_s, nu_n, au_au, nu_nu, au_nu]
      refine w_callV2 (pc' := 39) (mc := 0) (ms := 0) dX1_nextFitting_36 rfl tX1_lies q1274 rfl rfl qs40 q1272 ov_o rfl (Nat.le_of_ble_eq_true rfl) (Nat.le_of_ble_eq_true rfl) ?_
      refine c_X1_lies ⟨hkn.1, by omega⟩ ⟨by omega, by omega⟩ ht ?_
      refine w_p1 ?_
      refine w_iload_n (pc' := 40) dX1_nextFitting_39 rfl rfl ?_
      refine w_bipush (pc' := 42) dX1_nextFitting_40 rfl (by decide +kernel) (by decide) ?_
      refine w_irem (pc' := 43) dX1_nextFitting_42 rfl (by first | omega | (simp (decide := true) only [au_1, nu_2, au_lt, nu_lt, aw_e, nw_e, au_s, au_n, nu_s, nu_n, au_au, nu_nu, au_nu]; omega)) (by first | omega | (simp (decide := true) only [au_1, nu_2, au_lt, nu_lt, aw_e, nw_e, au_s, au_n, nu_s, nu_n, au_au, nu_nu, au_nu]; omega)) ?_
      -- at 43: .if_icmp .ne 23
      try simp (decide := true) only [au_1, nu_2, au_lt, nu_lt, aw_e, nw_e, au_s, au_n, nu_s, nu_n, au_au, nu_nu, au_nu]
      refine w_icmp_ne (pc' := 46) (tgt := 66) dX1_nextFitting_43 rfl rfl (fun g2 => ?_) (fun g2 => ?_)
      · exact next (fun z => g2 z.2.1) _
      · refine w_aload_n (pc' := 47) dX1_nextFitting_46 rfl rfl ?_
        refine w_iload_n (pc' := 48) dX1_nextFitting_47 rfl rfl ?_
        refine w_iload (pc' := 50) dX1_nextFitting_48 rfl rfl ?_
        refine w_iload_n (pc' := 51) dX1_nextFitting_50 rfl rfl ?_
        refine w_bipush (pc' := 53) dX1_nextFitting_51 rfl (by decide +kernel) (by decide) ?_
        refine w_irem (pc' := 54) dX1_nextFitting_53 rfl (by first | omega | (simp (decide := true) only [au_1, nu_2, au_lt, nu_lt, aw_e, nw_e, au_s, au_n, nu_s, nu_n, au_au, nu_nu, au_nu]; omega)) (by first | omega | (simp (decide := true) only [au_1, nu_2, au_lt, nu_lt, aw_e, nw_e, au_s, au_n, nu_s, nu_n, au_au, nu_nu, au_nu]; omega)) ?_
        refine w_iconst (pc' := 55) dX1_nextFitting_54 rfl (by decide) ?_
        -- at 55: .invokestatic 166
        try simp (decide := true) only [au_1, nu_2, au_lt, nu_lt, aw_e, nw_e, au_s, au_n, nu_s, nu_n, au_au, nu_nu, au_nu]
        refine w_callS3 (pc' := 58) (mc := 0) (ms := 0) dX1_nextFitting_55 rfl tX1_cell q1329 q1328 rfl (Nat.le_of_ble_eq_true rfl) (Nat.le_of_ble_eq_true rfl) ?_
        refine c_X1_cell ⟨hkn.1, by omega⟩ ⟨by omega, by omega⟩ ⟨by omega, by omega⟩ ?_
        refine w_p1 ?_
        rw [cel_n]
        refine w_callV2 (pc' := 61) (mc := 0) (ms := 0) dX1_nextFitting_58 rfl tX1_mayLie q1521 rfl rfl qs68 q1519 ov_o rfl (Nat.le_of_ble_eq_true rfl) (Nat.le_of_ble_eq_true rfl) ?_
        refine c_X1_mayLie hK hF hf hb hp (isC_of ⟨by omega, by omega⟩ hK1.2) (fun q => w_p1 ?_) (fun q => w_p1 ?_)
        · refine w_if_eq (pc' := 64) (tgt := 66) dX1_nextFitting_61 rfl rfl (fun h_ => False.elim (by first | omega | (simp (decide := true) only [au_1, nu_2, au_lt, nu_lt, aw_e, nw_e, au_s, au_n, nu_s, nu_n, au_au, nu_nu, au_nu] at h_; omega))) (fun h_ => ?_)
          refine w_iload_n (pc' := 65) dX1_nextFitting_64 rfl rfl ?_
          -- at 65: .ireturn
          try simp (decide := true) only [au_1, nu_2, au_lt, nu_lt, aw_e, nw_e, au_s, au_n, nu_s, nu_n, au_au, nu_nu, au_nu]
          refine w_ireturn dX1_nextFitting_65 rfl ?_
          exact h1 n n0 n1 ⟨by omega, g2, q⟩ hn
        · refine w_if_eq (pc' := 64) (tgt := 66) dX1_nextFitting_61 rfl rfl (fun h_ => ?_) (fun h_ => False.elim (by first | omega | (simp (decide := true) only [au_1, nu_2, au_lt, nu_lt, aw_e, nw_e, au_s, au_n, nu_s, nu_n, au_au, nu_nu, au_nu] at h_; omega)))
          exact next (fun z => q z.2.2) _
theorem c_X1_fitting {pl : Int} (hK : kok σ) (hF : fo1 σ) (hf : 0 ≤ σ.1 42 ∧ σ.1 42 < σ.1 40) (hb : bok σ (σ.1 42) (σ.2 44)) (hp : 0 ≤ pl ∧ pl < 64) (h : K (some (xI (nfB σ (σ.1 42) (σ.2 44) (σ.2 45) pl))) (ov σ G0)) : tvW mX1_fitting (d + 4) K 0 [some (xR mR), some (xI pl), none, none] [] (ov σ G0) bc bs := by
  have hK1 := hK.1
  unfold nfB at h
  have skip : ∀ n m, 0 ≤ n → n ≤ m → (∀ n', n ≤ n' → n' < m → ¬ cdB σ (σ.1 42) (σ.2 44) (σ.2 45) pl n') → sm (fun n => b1 (cdB σ (σ.1 42) (σ.2 44) (σ.2 45) pl n)) m = sm (fun n => b1 (cdB σ (σ.1 42) (σ.2 44) (σ.2 45) pl n)) n := by
    intro n m n0 nm hn
    refine up (T := fun i => sm (fun n => b1 (cdB σ (σ.1 42) (σ.2 44) (σ.2 45) pl n)) m = sm (fun n => b1 (cdB σ (σ.1 42) (σ.2 44) (σ.2 45) pl n)) i) (a := n) m nm rfl (fun i i0 i1 ih => ?_)
    rw [ih, sm_s (by omega), b1_f (hn i i0 i1), Int.add_zero]
  have loop : ∀ (j : Nat) (n : Int), 8 * σ.1 5 - n = j → 0 ≤ n → n < 8 * σ.1 5 → cdB σ (σ.1 42) (σ.2 44) (σ.2 45) pl n → tvW mX1_fitting (d + 4) K 9 [some (xR mR), some (xI pl), some (xI (sm (fun n => b1 (cdB σ (σ.1 42) (σ.2 44) (σ.2 45) pl n)) n)), some (xI n)] [] (ov σ G0) bc bs := by
    intro j
    induction j using Nat.strongRecOn with
    | ind j ih =>
      intro n hj n0 n1 hc
      have hs := sm_r (f := fun n => b1 (cdB σ (σ.1 42) (σ.2 44) (σ.2 45) pl n)) 1 n0 (fun _ _ _ => b1_r _)
      have hs1 : sm (fun n => b1 (cdB σ (σ.1 42) (σ.2 44) (σ.2 45) pl n)) (n + 1) = sm (fun n => b1 (cdB σ (σ.1 42) (σ.2 44) (σ.2 45) pl n)) n + 1 := by rw [sm_s n0, b1_t hc]
      refine w_iload_n (pc' := 10) dX1_fitting_9 rfl rfl ?_
      -- at 10: .ifCond .lt 18
      try simp (decide := true) only [au_1, nu_2, au_lt, nu_lt, aw_e, nw_e, au_s, au_n, nu_s, nu_n, au_au, nu_nu, au_nu]
      refine w_if_lt (pc' := 13) (tgt := 28) dX1_fitting_10 rfl rfl (fun h_ => False.elim (by first | omega | (simp (decide := true) only [au_1, nu_2, au_lt, nu_lt, aw_e, nw_e, au_s, au_n, nu_s, nu_n, au_au, nu_nu, au_nu] at h_; omega))) (fun h_ => ?_)
      refine w_inc2 (pc' := 16) dX1_fitting_13 rfl rfl ⟨by first | omega | (simp (decide := true) only [au_1, nu_2, au_lt, nu_lt, aw_e, nw_e, au_s, au_n, nu_s, nu_n, au_au, nu_nu, au_nu]; omega), by first | omega | (simp (decide := true) only [au_1, nu_2, au_lt, nu_lt, aw_e, nw_e, au_s, au_n, nu_s, nu_n, au_au, nu_nu, au_nu]; omega)⟩ ?_
      refine w_aload_n (pc' := 17) dX1_fitting_16 rfl rfl ?_
      refine w_iload_n (pc' := 18) dX1_fitting_17 rfl rfl ?_
      refine w_iload_n (pc' := 19) dX1_fitting_18 rfl rfl ?_
      refine w_iconst (pc' := 20) dX1_fitting_19 rfl (by decide) ?_
      refine w_iadd (pc' := 21) dX1_fitting_20 rfl ⟨by first | omega | (simp (decide := true) only [au_1, nu_2, au_lt, nu_lt, aw_e, nw_e, au_s, au_n, nu_s, nu_n, au_au, nu_nu, au_nu]; omega), by first | omega | (simp (decide := true) only [au_1, nu_2, au_lt, nu_lt, aw_e, nw_e, au_s, au_n, nu_s, nu_n, au_au, nu_nu, au_nu]; omega)⟩ ?_
      -- at 21: .invokevirtual 304
      try simp (decide := true) only [au_1, nu_2, au_lt, nu_lt, aw_e, nw_e, au_s, au_n, nu_s, nu_n, au_au, nu_nu, au_nu]
      refine w_callV2 (pc' := 24) (mc := 0) (ms := 0) dX1_fitting_21 rfl tX1_nextFitting q1545 rfl rfl qs74 q1543 ov_o rfl (Nat.le_of_ble_eq_true rfl) (Nat.le_of_ble_eq_true rfl) ?_
      refine c_X1_nextFitting hK hF hf hb hp ⟨by omega, by omega⟩ (fun m m0 m1 hm hn => w_p1 ?_) (fun hn => w_p1 ?_)
      · refine w_ist3 (pc' := 25) dX1_fitting_24 rfl rfl ?_
        refine w_goto (tgt := 9) dX1_fitting_25 rfl ?_
        -- at 9: .iload_n 3
        try simp (decide := true) only [au_1, nu_2, au_lt, nu_lt, aw_e, nw_e, au_s, au_n, nu_s, nu_n, au_au, nu_nu, au_nu]
        rw [← hs1, ← skip (n + 1) m (by omega) m0 hn]
        exact ih (8 * σ.1 5 - m).toNat (by omega) m (by omega) (by omega) m1 hm
      · refine w_ist3 (pc' := 25) dX1_fitting_24 rfl rfl ?_
        refine w_goto (tgt := 9) dX1_fitting_25 rfl ?_
        refine w_iload_n (pc' := 10) dX1_fitting_9 rfl rfl ?_
        -- at 10: .ifCond .lt 18
        try simp (decide := true) only [au_1, nu_2, au_lt, nu_lt, aw_e, nw_e, au_s, au_n, nu_s, nu_n, au_au, nu_nu, au_nu]
        refine w_if_lt (pc' := 13) (tgt := 28) dX1_fitting_10 rfl rfl (fun h_ => ?_) (fun h_ => False.elim (by first | omega | (simp (decide := true) only [au_1, nu_2, au_lt, nu_lt, aw_e, nw_e, au_s, au_n, nu_s, nu_n, au_au, nu_nu, au_nu] at h_; omega)))
        refine w_iload_n (pc' := 29) dX1_fitting_28 rfl rfl ?_
        -- at 29: .ireturn
        try simp (decide := true) only [au_1, nu_2, au_lt, nu_lt, aw_e, nw_e, au_s, au_n, nu_s, nu_n, au_au, nu_nu, au_nu]
        refine w_ireturn dX1_fitting_29 rfl ?_
        rw [← hs1, ← skip (n + 1) (8 * σ.1 5) (by omega) (by omega) hn]
        exact h
  refine w_iconst (pc' := 1) dX1_fitting_0 rfl (by decide) ?_
  refine w_ist2 (pc' := 2) dX1_fitting_1 rfl rfl ?_
  refine w_aload_n (pc' := 3) dX1_fitting_2 rfl rfl ?_
  refine w_iload_n (pc' := 4) dX1_fitting_3 rfl rfl ?_
  refine w_iconst (pc' := 5) dX1_fitting_4 rfl (by decide) ?_
  -- at 5: .invokevirtual 304
  try simp (decide := true) only [au_1, nu_2, au_lt, nu_lt, aw_e, nw_e, au_s, au_n, nu_s, nu_n, au_au, nu_nu, au_nu]
  refine w_callV2 (pc' := 8) (mc := 0) (ms := 0) dX1_fitting_5 rfl tX1_nextFitting q1545 rfl rfl qs74 q1543 ov_o rfl (Nat.le_of_ble_eq_true rfl) (Nat.le_of_ble_eq_true rfl) ?_
  refine c_X1_nextFitting hK hF hf hb hp ⟨by omega, by omega⟩ (fun m m0 m1 hm hn => w_p1 ?_) (fun hn => w_p1 ?_)
  · refine w_ist3 (pc' := 9) dX1_fitting_8 rfl rfl ?_
    -- at 9: .iload_n 3
    try simp (decide := true) only [au_1, nu_2, au_lt, nu_lt, aw_e, nw_e, au_s, au_n, nu_s, nu_n, au_au, nu_nu, au_nu]
    have := loop (8 * σ.1 5 - m).toNat m (by omega) m0 m1 hm
    rw [skip 0 m (by omega) m0 hn] at this
    exact this
  · refine w_ist3 (pc' := 9) dX1_fitting_8 rfl rfl ?_
    refine w_iload_n (pc' := 10) dX1_fitting_9 rfl rfl ?_
    -- at 10: .ifCond .lt 18
    try simp (decide := true) only [au_1, nu_2, au_lt, nu_lt, aw_e, nw_e, au_s, au_n, nu_s, nu_n, au_au, nu_nu, au_nu]
    refine w_if_lt (pc' := 13) (tgt := 28) dX1_fitting_10 rfl rfl (fun h_ => ?_) (fun h_ => False.elim (by first | omega | (simp (decide := true) only [au_1, nu_2, au_lt, nu_lt, aw_e, nw_e, au_s, au_n, nu_s, nu_n, au_au, nu_nu, au_nu] at h_; omega)))
    refine w_iload_n (pc' := 29) dX1_fitting_28 rfl rfl ?_
    -- at 29: .ireturn
    try simp (decide := true) only [au_1, nu_2, au_lt, nu_lt, aw_e, nw_e, au_s, au_n, nu_s, nu_n, au_au, nu_nu, au_nu]
    refine w_ireturn dX1_fitting_29 rfl ?_
    rw [skip 0 (8 * σ.1 5) (by omega) (by omega) hn] at h
    exact h
end
