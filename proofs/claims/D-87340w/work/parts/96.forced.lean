set_option maxRecDepth 10000
section
variable {d : Nat} {K : Option XV → GH → Prop} {G : GH} {bc bs : Nat} {σ : MS} {f : Int} {H W : Nat} {b l : Int → Int} {u ma li : Int} {rg : Option Rl} {z0 z1 z2 z3 z4 z5 z6 z7 z8 z9 : Int}
/-- one behind the other -/
theorem c_X10_round_3 {v1 v2 : Option XV} {wa : Int → Int → Int} (hO : G (fO f) = some (xob 8 (fob f H W z0 z1 z2 z3 z4 z5 z6 z7 z8 z9))) (hof : off G u ma li rg) (hkin : Rkin σ G) (hbd : fbd G f 0 10 0 H W (isB σ f)) (hly : fbd G f 1 10 0 H W (fun i j => lyB σ f b i j - 1)) (hon : fbd G f 4 11 3 H W (fun i j => b1 (0 ≤ rd1 σ f b l (8 * i + j)))) (hwa : fbd G f 3 10 0 H W wa) (hwt : ∀ i j : Int, 0 ≤ i → i < H → 0 ≤ j → j < W → 0 ≤ rd1 σ f b l (8 * i + j) → wa i j = rd1 σ f b l (8 * i + j)) (hlf : flf σ f l G) (hK : kok σ) (hF : fo1 σ) (hf : 0 ≤ f ∧ f < σ.1 40) (eH : (H : Int) = σ.2 35 f) (eW : (W : Int) = σ.2 36 f) (hb : bok σ f b) (hl : lok σ l)
    (h : ∀ G', (∀ q : Rl, q ≠ (25, f, 1) → ¬ (q.1 = 27 ∧ q.2.1 = 8 * f + 1) → G' q = G q) → fbd G' f 1 10 0 H W (fun i j => lyB σ f (rnd σ f b l).1 i j - 1) → flf σ f (rnd σ f b l).2.1 G' → K (some (xI (rnd σ f b l).2.2)) G') : tvW mX10_round (d + 6) K 135 [some (xR (fO f)), v1, v2, none, none] [] G bc bs := by
  have hk1 := hK.1
  have hd := hF.2 f hf.1 hf.2
  have hon6 := hon.1
  have hwa6 := hwa.1
  have ok := rdN_ok (f := f) hk1.1 (by omega) hb hl
  have hst : ∃ S : Int → GH → Prop, S = fun m G1 => (∀ q : Rl, q ≠ (25, f, 1) → ¬ (q.1 = 27 ∧ q.2.1 = 8 * f + 1) → G1 q = G q) ∧ fbd G1 f 1 10 0 H W (fun i j => lyB σ f (rdN σ f (rd1 σ f b l) (b, l, 0) (m.toNat)).1 i j - 1) ∧ flf σ f (rdN σ f (rd1 σ f b l) (b, l, 0) (m.toNat)).2.1 G1 := ⟨_, rfl⟩
  obtain ⟨S, hS⟩ := hst
  have eX : ∀ m m' : Int, 0 ≤ m → m ≤ m' → (∀ k, m ≤ k → k < m' → ¬ opB σ f k) → (rdN σ f (rd1 σ f b l) (b, l, 0) (m'.toNat)) = (rdN σ f (rd1 σ f b l) (b, l, 0) (m.toNat)) := by
    intro m m' m0 m1 hz
    have z := rdN_skip (σ := σ) (f := f) (T := rd1 σ f b l) (X := (b, l, 0)) (m' - m).toNat m.toNat (fun k k0 k1 => hz k (by omega) (by omega))
    rw [show m.toNat + (m' - m).toNat = m'.toNat by omega] at z
    exact z
  refine w_iconst (pc' := 136) dX10_round_135 rfl (by decide) ?_
  refine w_ist1 (pc' := 137) dX10_round_136 rfl rfl ?_
  refine w_iconst (pc' := 138) dX10_round_137 rfl (by decide) ?_
  refine w_ist2 (pc' := 139) dX10_round_138 rfl rfl ?_
  -- at 139: .iload_n 2
  refine up (T := fun i => 0 ≤ i → ∀ (n : Int) (v3 v4 : Option XV) (G1 : GH), n = (rdN σ f (rd1 σ f b l) (b, l, 0) ((8 * i).toNat)).2.2 → S (8 * i) G1 → tvW mX10_round (d + 6) K 139 [some (xR (fO f)), some (xI n), (some (xI i)), v3, v4] [] G1 bc bs) (a := 0) (H : Int) (by omega) ?_ ?_ (Int.le_refl _) 0 none none G rfl (by rw [hS]; exact ⟨fun _ _ _ => rfl, hly, hlf⟩)
  · intro _ n v3 v4 G1 en s
    rw [hS] at s
    obtain ⟨s1, s2, s3⟩ := s
    have hO1 := (s1 (fO f) (rl_ne (by omega)) (by simp only []; omega)).trans hO
    have e64 : rnd σ f b l = (rdN σ f (rd1 σ f b l) (b, l, 0) ((8 * (H : Int)).toNat)) := by
      have z := eX (8 * H) 64 (by omega) (by omega) (fun k k0 k1 y => by have := y.1; omega)
      exact z
    refine w_iload_n (pc' := 140) dX10_round_139 rfl rfl ?_
    refine w_aload_n (pc' := 141) dX10_round_140 rfl rfl ?_
    refine w_get 0 (pc' := 144) dX10_round_141 rfl fX10_22_8 hO1 rfl ?_
    -- at 144: .if_icmp .ge 113
    refine w_icmp_ge (pc' := 147) (tgt := 257) dX10_round_144 rfl rfl (fun h_ => ?_) (fun h_ => False.elim (by first | omega | (simp (decide := true) only [au_1, nu_2, au_lt, nu_lt, aw_e, nw_e, au_s, au_n, nu_s, nu_n, au_au, nu_nu, au_nu] at h_; omega)))
    refine w_iload_n (pc' := 258) dX10_round_257 rfl rfl ?_
    -- at 258: .ireturn
    refine w_ireturn dX10_round_258 rfl ?_
    rw [en]
    rw [e64] at h
    exact h G1 s1 s2 s3
  · intro i i0 i1 ih _ n v3 v4 G1 en s
    have s0 := s
    rw [hS] at s0
    have hO1 := (s0.1 (fO f) (rl_ne (by omega)) (by simp only []; omega)).trans hO
    refine w_iload_n (pc' := 140) dX10_round_139 rfl rfl ?_
    refine w_aload_n (pc' := 141) dX10_round_140 rfl rfl ?_
    refine w_get 0 (pc' := 144) dX10_round_141 rfl fX10_22_8 hO1 rfl ?_
    -- at 144: .if_icmp .ge 113
    refine w_icmp_ge (pc' := 147) (tgt := 257) dX10_round_144 rfl rfl (fun h_ => False.elim (by first | omega | (simp (decide := true) only [au_1, nu_2, au_lt, nu_lt, aw_e, nw_e, au_s, au_n, nu_s, nu_n, au_au, nu_nu, au_nu] at h_; omega))) (fun h_ => ?_)
    refine w_iconst (pc' := 148) dX10_round_147 rfl (by decide) ?_
    refine w_ist3 (pc' := 149) dX10_round_148 rfl rfl ?_
    -- at 149: .iload_n 3
    refine up (T := fun j => 0 ≤ j → ∀ (n : Int) (v4 : Option XV) (G1 : GH), n = (rdN σ f (rd1 σ f b l) (b, l, 0) ((8 * i + j).toNat)).2.2 → S (8 * i + j) G1 → tvW mX10_round (d + 6) K 149 [some (xR (fO f)), some (xI n), (some (xI i)), (some (xI j)), v4] [] G1 bc bs) (a := 0) (W : Int) (by omega) ?_ ?_ (Int.le_refl _) n v4 G1 (by rw [Int.add_zero]; exact en) (by rw [Int.add_zero]; exact s)
    · intro _ n v4 G1 en s
      have s0 := s
      rw [hS] at s0
      have hO1 := (s0.1 (fO f) (rl_ne (by omega)) (by simp only []; omega)).trans hO
      have ee := eX (8 * i + W) (8 * (i + 1)) (by omega) (by omega) (fun k k0 k1 y => by have := y.1; omega)
      refine w_iload_n (pc' := 150) dX10_round_149 rfl rfl ?_
      refine w_aload_n (pc' := 151) dX10_round_150 rfl rfl ?_
      refine w_get 1 (pc' := 154) dX10_round_151 rfl fX10_26_8 hO1 rfl ?_
      -- at 154: .if_icmp .ge 97
      refine w_icmp_ge (pc' := 157) (tgt := 251) dX10_round_154 rfl rfl (fun h_ => ?_) (fun h_ => False.elim (by first | omega | (simp (decide := true) only [au_1, nu_2, au_lt, nu_lt, aw_e, nw_e, au_s, au_n, nu_s, nu_n, au_au, nu_nu, au_nu] at h_; omega)))
      refine w_inc2 (pc' := 254) dX10_round_251 rfl rfl ⟨by first | omega | (simp (decide := true) only [au_1, nu_2, au_lt, nu_lt, aw_e, nw_e, au_s, au_n, nu_s, nu_n, au_au, nu_nu, au_nu]; omega), by first | omega | (simp (decide := true) only [au_1, nu_2, au_lt, nu_lt, aw_e, nw_e, au_s, au_n, nu_s, nu_n, au_au, nu_nu, au_nu]; omega)⟩ ?_
      refine w_goto (tgt := 139) dX10_round_254 rfl ?_
      -- at 139: .iload_n 2
      refine ih (by omega) n _ _ G1 (by rw [ee]; exact en) ?_
      rw [hS]
      simp only []
      rw [ee]
      exact s0
    · intro j j0 j1 ihj _ n v4 G1 en s
      have s0 := s
      rw [hS] at s0
      obtain ⟨s1, s2, gl, t1, t2⟩ := s0
      have hO1 := (s1 (fO f) (rl_ne (by omega)) (by simp only []; omega)).trans hO
      have p36 := (s1 (26, f, 3) (rl_ne (by omega)) (by simp only []; omega)).trans hwa6
      have p46 := (s1 (26, f, 4) (rl_ne (by omega)) (by simp only []; omega)).trans hon6
      have s26 := s2.1
      obtain ⟨gn, gn1, gn2⟩ := hon.2 i i0 i1
      have gn1 := (s1 (27, 8 * f + 4, i) (rl_ne (by omega)) (by simp only []; omega)).trans gn1
      have x1 := gn2 j j0 j1
      simp only [] at x1
      obtain ⟨gw, gw1, gw2⟩ := hwa.2 i i0 i1
      have gw1 := (s1 (27, 8 * f + 3, i) (rl_ne (by omega)) (by simp only []; omega)).trans gw1
      have x2 := gw2 j j0 j1
      obtain ⟨o1, o2, o3, -⟩ := ok (8 * i + j).toNat
      obtain ⟨r1, r2⟩ := rd1_r (σ := σ) (f := f) (pl := 8 * i + j) (b := b) (l := l) hk1.1
      have en1 : (((8 * i + j).toNat : Nat) : Int) = 8 * i + j := by omega
      have eN : (rdN σ f (rd1 σ f b l) (b, l, 0) ((8 * i + (j + 1)).toNat)) = stF σ f (rd1 σ f b l) (8 * i + j) (rdN σ f (rd1 σ f b l) (b, l, 0) ((8 * i + j).toNat)) := by
        rw [show (8 * i + (j + 1)).toNat = (8 * i + j).toNat + 1 by omega]
        show stF σ f (rd1 σ f b l) (((8 * i + j).toNat : Nat) : Int) _ = _
        rw [en1]
      have hn : 0 ≤ n ∧ n ≤ 64 := by rw [en]; omega
      have skip : ∀ v4, ¬ stQ σ f (rd1 σ f b l) (8 * i + j) (rdN σ f (rd1 σ f b l) (b, l, 0) ((8 * i + j).toNat)) → tvW mX10_round (d + 6) K 245 [some (xR (fO f)), some (xI n), (some (xI i)), (some (xI j)), v4] [] G1 bc bs := by
        intro v4 q
        rw [stF_f q] at eN
        refine w_inc3 (pc' := 248) dX10_round_245 rfl rfl ⟨by first | omega | (simp (decide := true) only [au_1, nu_2, au_lt, nu_lt, aw_e, nw_e, au_s, au_n, nu_s, nu_n, au_au, nu_nu, au_nu]; omega), by first | omega | (simp (decide := true) only [au_1, nu_2, au_lt, nu_lt, aw_e, nw_e, au_s, au_n, nu_s, nu_n, au_au, nu_nu, au_nu]; omega)⟩ ?_
        refine w_goto (tgt := 149) dX10_round_248 rfl ?_
        -- at 149: .iload_n 3
        refine ihj (by omega) n _ G1 (by rw [eN]; exact en) ?_
        rw [hS]
        simp only []
        rw [eN]
        exact ⟨s1, s2, gl, t1, t2⟩
      refine w_iload_n (pc' := 150) dX10_round_149 rfl rfl ?_
      refine w_aload_n (pc' := 151) dX10_round_150 rfl rfl ?_
      refine w_get 1 (pc' := 154) dX10_round_151 rfl fX10_26_8 hO1 rfl ?_
      -- at 154: .if_icmp .ge 97
      refine w_icmp_ge (pc' := 157) (tgt := 251) dX10_round_154 rfl rfl (fun h_ => False.elim (by first | omega | (simp (decide := true) only [au_1, nu_2, au_lt, nu_lt, aw_e, nw_e, au_s, au_n, nu_s, nu_n, au_au, nu_nu, au_nu] at h_; omega))) (fun h_ => ?_)
      refine w_aload_n (pc' := 158) dX10_round_157 rfl rfl ?_
      refine w_get 7 (pc' := 161) dX10_round_158 rfl fX10_40_8 hO1 rfl ?_
      refine w_iload_n (pc' := 162) dX10_round_161 rfl rfl ?_
      refine w_aaldM (pc' := 163) dX10_round_162 rfl p36 i0 i1 ?_
      refine w_iload_n (pc' := 164) dX10_round_163 rfl rfl ?_
      refine w_iald (pc' := 165) dX10_round_164 rfl gw1 j0 j1 ?_
      -- at 165: .iconst 3
      rw [x2]
      refine w_iconst (pc' := 166) dX10_round_165 rfl (by decide) ?_
      refine w_ishr (pc' := 167) dX10_round_166 rfl ?_
      refine w_ist4 (pc' := 169) dX10_round_167 rfl rfl ?_
      refine w_aload_n (pc' := 170) dX10_round_169 rfl rfl ?_
      refine w_get 8 (pc' := 173) dX10_round_170 rfl fX10_45_8 hO1 rfl ?_
      refine w_iload_n (pc' := 174) dX10_round_173 rfl rfl ?_
      refine w_aaldM (pc' := 175) dX10_round_174 rfl p46 i0 i1 ?_
      refine w_iload_n (pc' := 176) dX10_round_175 rfl rfl ?_
      refine w_zald (pc' := 177) dX10_round_176 rfl gn1 j0 j1 ?_
      -- at 177: .ifCond .eq 68
      rw [x1]
      by_cases q : 0 ≤ rd1 σ f b l (8 * i + j)
      · obtain ⟨hop, bz, -⟩ := r1.mp q
        have ht := (r2 q).2
        have ew := hwt i j i0 i1 j0 j1 q
        rw [ew] at x2 ⊢
        rw [b1_t q]
        have hX0 : (rdN σ f (rd1 σ f b l) (b, l, 0) ((8 * i + j).toNat)).1 (8 * i + j) = 0 := by
          have := rdN_hi (σ := σ) (f := f) (T := rd1 σ f b l) (X := (b, l, 0)) (8 * i + j).toNat (8 * i + j) (by omega)
          rw [this]
          exact bz
        rw [bShr_3 ⟨by omega, by omega⟩]
        have t2k := t2 (rd1 σ f b l (8 * i + j) / 8) (by omega) (by omega)
        have o2k := o2 (rd1 σ f b l (8 * i + j) / 8) (by omega) (by omega)
        have hQ : stQ σ f (rd1 σ f b l) (8 * i + j) (rdN σ f (rd1 σ f b l) (b, l, 0) ((8 * i + j).toNat)) ↔ (rdN σ f (rd1 σ f b l) (b, l, 0) ((8 * i + j).toNat)).2.1 (rd1 σ f b l (8 * i + j) / 8) ≠ 0 ∧ mlB σ f (rdN σ f (rd1 σ f b l) (b, l, 0) ((8 * i + j).toNat)).1 (8 * i + j) (rd1 σ f b l (8 * i + j) + 1) := ⟨fun y => y.2.2, fun y => ⟨hop, q, y⟩⟩
        have hR1 : flR σ f H W (rdN σ f (rd1 σ f b l) (b, l, 0) ((8 * i + j).toNat)).1 G1 := ⟨⟨_, _, _, _, (s1 oR (rl_ne (by omega)) (by simp only []; omega)).trans hof⟩, Rkin_fr2 (fun z hz => s1 z (fun y => by rw [y] at hz; simp only [] at hz; omega) (by omega)) hkin, ⟨_, _, _, _, _, _, _, _, _, _, hO1⟩, fbd_fr (s1 _ (rl_ne (by omega)) (by simp only []; omega)) (fun i => s1 _ (rl_ne (by omega)) (by simp only []; omega)) hbd, s2⟩
        have stT := stF_t (σ := σ) (f := f) (pl := 8 * i + j) (T := rd1 σ f b l) (X := (rdN σ f (rd1 σ f b l) (b, l, 0) ((8 * i + j).toNat)))
        generalize rd1 σ f b l (8 * i + j) = t at *
        generalize rdN σ f (rd1 σ f b l) (b, l, 0) (8 * i + j).toNat = X at *
        refine w_if_eq (pc' := 180) (tgt := 245) dX10_round_177 rfl rfl (fun h_ => False.elim (by first | omega | (simp (decide := true) only [au_1, nu_2, au_lt, nu_lt, aw_e, nw_e, au_s, au_n, nu_s, nu_n, au_au, nu_nu, au_nu] at h_; omega))) (fun h_ => ?_)
        refine w_aload_n (pc' := 181) dX10_round_180 rfl rfl ?_
        refine w_get 4 (pc' := 184) dX10_round_181 rfl fX10_19_8 hO1 rfl ?_
        refine w_iload (pc' := 186) dX10_round_184 rfl rfl ?_
        refine w_iald (pc' := 187) dX10_round_186 rfl t1 (by omega) (by omega) ?_
        -- at 187: .ifCond .eq 58
        rw [t2k]
        by_cases q2 : X.2.1 (t / 8) = 0
        · refine w_if_eq (pc' := 190) (tgt := 245) dX10_round_187 rfl rfl (fun h_ => ?_) (fun h_ => False.elim (by first | omega | (simp (decide := true) only [au_1, nu_2, au_lt, nu_lt, aw_e, nw_e, au_s, au_n, nu_s, nu_n, au_au, nu_nu, au_nu] at h_; omega)))
          exact skip _ (fun y => (hQ.mp y).1 q2)
        · obtain ⟨gy, gy1, -⟩ := s2.2 i i0 i1
          refine w_if_eq (pc' := 190) (tgt := 245) dX10_round_187 rfl rfl (fun h_ => False.elim (by first | omega | (simp (decide := true) only [au_1, nu_2, au_lt, nu_lt, aw_e, nw_e, au_s, au_n, nu_s, nu_n, au_au, nu_nu, au_nu] at h_; omega))) (fun h_ => ?_)
          refine w_aload_n (pc' := 191) dX10_round_190 rfl rfl ?_
          refine w_iload_n (pc' := 192) dX10_round_191 rfl rfl ?_
          refine w_iload_n (pc' := 193) dX10_round_192 rfl rfl ?_
          refine w_iload (pc' := 195) dX10_round_193 rfl rfl ?_
          refine w_aload_n (pc' := 196) dX10_round_195 rfl rfl ?_
          refine w_get 7 (pc' := 199) dX10_round_196 rfl fX10_40_8 hO1 rfl ?_
          refine w_iload_n (pc' := 200) dX10_round_199 rfl rfl ?_
          refine w_aaldM (pc' := 201) dX10_round_200 rfl p36 i0 i1 ?_
          refine w_iload_n (pc' := 202) dX10_round_201 rfl rfl ?_
          refine w_iald (pc' := 203) dX10_round_202 rfl gw1 j0 j1 ?_
          -- at 203: .bipush 7
          rw [x2]
          refine w_bipush (pc' := 205) dX10_round_203 rfl (by decide +kernel) (by decide) ?_
          refine w_iand (pc' := 206) dX10_round_205 rfl ?_
          -- at 206: .invokevirtual 79
          rw [bAnd_7]
          refine w_callV4 (pc' := 209) (mc := 0) (ms := 0) dX10_round_206 rfl tX10_fits q988 rfl rfl qs30 q986 hO1 rfl (Nat.le_of_ble_eq_true rfl) (Nat.le_of_ble_eq_true rfl) ?_
          refine c_X10_fits hR1 hK hF hf eH eW o1 (by omega) (by omega) ⟨by omega, by omega⟩ ⟨by omega, by omega⟩ (fun y => w_p1 ?_) (fun y => w_p1 ?_)
          · rw [show 8 * (t / 8) + t % 8 + 1 = t + 1 by omega] at y
            have stT := stT (hQ.mpr ⟨q2, y⟩)
            rw [stT] at eN
            refine w_if_ne (pc' := 212) (tgt := 215) dX10_round_209 rfl rfl (fun h_ => ?_) (fun h_ => False.elim (by first | omega | (simp (decide := true) only [au_1, nu_2, au_lt, nu_lt, aw_e, nw_e, au_s, au_n, nu_s, nu_n, au_au, nu_nu, au_nu] at h_; omega)))
            refine w_aload_n (pc' := 216) dX10_round_215 rfl rfl ?_
            refine w_get 5 (pc' := 219) dX10_round_216 rfl fX10_34_8 hO1 rfl ?_
            refine w_iload_n (pc' := 220) dX10_round_219 rfl rfl ?_
            refine w_aaldM (pc' := 221) dX10_round_220 rfl s26 i0 i1 ?_
            refine w_iload_n (pc' := 222) dX10_round_221 rfl rfl ?_
            refine w_aload_n (pc' := 223) dX10_round_222 rfl rfl ?_
            refine w_get 7 (pc' := 226) dX10_round_223 rfl fX10_40_8 hO1 rfl ?_
            refine w_iload_n (pc' := 227) dX10_round_226 rfl rfl ?_
            refine w_aaldM (pc' := 228) dX10_round_227 rfl p36 i0 i1 ?_
            refine w_iload_n (pc' := 229) dX10_round_228 rfl rfl ?_
            refine w_iald (pc' := 230) dX10_round_229 rfl gw1 j0 j1 ?_
            -- at 230: .iastore
            rw [x2]
            refine w_iast (pc' := 231) dX10_round_230 rfl gy1 j0 j1  ?_
            -- at 231: .aload_n 0
            refine w_upd (fun G2 a2 f2 => ?_)
            have hO1 := (f2 _ (rl_ne (by omega))).trans hO1
            have t1 := (f2 _ (rl_ne (by omega))).trans t1
            refine w_aload_n (pc' := 232) dX10_round_231 rfl rfl ?_
            refine w_get 4 (pc' := 235) dX10_round_232 rfl fX10_19_8 hO1 rfl ?_
            refine w_iload (pc' := 237) dX10_round_235 rfl rfl ?_
            refine w_dup2 (pc' := 238) dX10_round_237 rfl rfl rfl ?_
            refine w_iald (pc' := 239) dX10_round_238 rfl t1 (by omega) (by omega) ?_
            -- at 239: .iconst 1
            rw [t2k]
            refine w_iconst (pc' := 240) dX10_round_239 rfl (by decide) ?_
            refine w_isub (pc' := 241) dX10_round_240 rfl ⟨by first | omega | (simp (decide := true) only [au_1, nu_2, au_lt, nu_lt, aw_e, nw_e, au_s, au_n, nu_s, nu_n, au_au, nu_nu, au_nu]; omega), by first | omega | (simp (decide := true) only [au_1, nu_2, au_lt, nu_lt, aw_e, nw_e, au_s, au_n, nu_s, nu_n, au_au, nu_nu, au_nu]; omega)⟩ ?_
            refine w_iast (pc' := 242) dX10_round_241 rfl t1 (by omega) (by omega)  ?_
            -- at 242: .iinc 1 1
            refine w_upd (fun G3 a3 f3 => ?_)
            refine w_inc1 (pc' := 245) dX10_round_242 rfl rfl ⟨by first | omega | (simp (decide := true) only [au_1, nu_2, au_lt, nu_lt, aw_e, nw_e, au_s, au_n, nu_s, nu_n, au_au, nu_nu, au_nu]; omega), by first | omega | (simp (decide := true) only [au_1, nu_2, au_lt, nu_lt, aw_e, nw_e, au_s, au_n, nu_s, nu_n, au_au, nu_nu, au_nu]; omega)⟩ ?_
            refine w_inc3 (pc' := 248) dX10_round_245 rfl rfl ⟨by first | omega | (simp (decide := true) only [au_1, nu_2, au_lt, nu_lt, aw_e, nw_e, au_s, au_n, nu_s, nu_n, au_au, nu_nu, au_nu]; omega), by first | omega | (simp (decide := true) only [au_1, nu_2, au_lt, nu_lt, aw_e, nw_e, au_s, au_n, nu_s, nu_n, au_au, nu_nu, au_nu]; omega)⟩ ?_
            refine w_goto (tgt := 149) dX10_round_248 rfl ?_
            -- at 149: .iload_n 3
            refine ihj (by omega) (n + 1) _ G3 (by rw [eN, en]) ?_
            rw [hS]
            simp only []
            rw [eN]
            refine ⟨fun q y1 y2 => by rw [f3 q y1, f2 q (fun z => y2 (by rw [z]; exact ⟨rfl, rfl⟩)), s1 q y1 y2], ?_, ?_⟩
            · refine fbd_fr (f3 _ (rl_ne (by omega))) (fun i => f3 _ (rl_ne (by omega))) (fbd_c (fun y' x' y0 y1 x0 x1 => ?_) (fbd_s s2 gy1 a2 f2))
              unfold upd2
              simp only []
              rw [lyB_set hop (by omega) (by omega) (by omega) (by omega)]
              by_cases e : y' = i ∧ x' = j
              · rw [if_pos e, if_pos e]
                omega
              · rw [if_neg e, if_neg e]
            · refine ⟨_, a3, fun z z0 z1 => ?_⟩
              show iset gl (t / 8) (X.2.1 (t / 8) - 1) z = iset X.2.1 (t / 8) (X.2.1 (t / 8) - 1) z
              unfold iset
              by_cases e : z = t / 8
              · rw [if_pos e, if_pos e]
              · rw [if_neg e, if_neg e]
                exact t2 z z0 z1
          · rw [show 8 * (t / 8) + t % 8 + 1 = t + 1 by omega] at y
            refine w_if_ne (pc' := 212) (tgt := 215) dX10_round_209 rfl rfl (fun h_ => False.elim (by first | omega | (simp (decide := true) only [au_1, nu_2, au_lt, nu_lt, aw_e, nw_e, au_s, au_n, nu_s, nu_n, au_au, nu_nu, au_nu] at h_; omega))) (fun h_ => ?_)
            refine w_goto (tgt := 245) dX10_round_212 rfl ?_
            -- at 245: .iinc 3 1
            exact skip _ (fun z => y (hQ.mp z).2)
      · rw [b1_f q]
        refine w_if_eq (pc' := 180) (tgt := 245) dX10_round_177 rfl rfl (fun h_ => ?_) (fun h_ => False.elim (by first | omega | (simp (decide := true) only [au_1, nu_2, au_lt, nu_lt, aw_e, nw_e, au_s, au_n, nu_s, nu_n, au_au, nu_nu, au_nu] at h_; omega)))
        exact skip _ (fun y => q y.2.1)
theorem c_X10_round (hO : G (fO f) = some (xob 8 (fob f H W z0 z1 z2 z3 z4 z5 z6 z7 z8 z9))) (hof : off G u ma li rg) (hkin : Rkin σ G) (h3 : fl3 σ f H W b G) (hlf : flf σ f l G) (hK : kok σ) (hF : fo1 σ) (hf : 0 ≤ f ∧ f < σ.1 40) (eH : (H : Int) = σ.2 35 f) (eW : (W : Int) = σ.2 36 f) (hb : bok σ f b) (hl : lok σ l)
    (h : ∀ G', ffr f G G' → G' (fO f) = G (fO f) → fl3 σ f H W (rnd σ f b l).1 G' → flf σ f (rnd σ f b l).2.1 G' → K (some (xI (rnd σ f b l).2.2)) G') : tvW mX10_round (d + 6) K 0 [some (xR (fO f)), none, none, none, none] [] G bc bs := by
  obtain ⟨hbd, hly, hto, hwa, hon, hsk, -⟩ := h3
  obtain ⟨g, g1, g2⟩ := id hlf
  have hR : flR σ f H W b G := ⟨⟨_, _, _, _, hof⟩, hkin, ⟨_, _, _, _, _, _, _, _, _, _, hO⟩, hbd, hly⟩
  refine c_X10_round_1 hR hon g1 g2 hK hF hf eH eW hb hl (fun G1 v1 v2 f1 on1 => ?_)
  have wa1 : ∃ wa, fbd G1 f 3 10 0 H W wa := by
    obtain ⟨wa, w1⟩ := hwa
    exact ⟨wa, fbd_fr (f1 _ (by simp only []; omega)) (fun i => f1 _ (by simp only []; omega)) w1⟩
  refine c_X10_round_2 (flR_fr (fun q hq => f1 q (by omega)) hR) on1 wa1 ((f1 _ (by simp only []; omega)).trans g1) g2 hK hF hf eH eW hb hl (fun G2 v1 v2 f2 wa2 => ?_)
  obtain ⟨wa, w1, w2⟩ := wa2
  have ch2 : ∀ q : Rl, ¬ (q.1 = 27 ∧ (q.2.1 = 8 * f + 3 ∨ q.2.1 = 8 * f + 4)) → G2 q = G q := fun q hq => (f2 q (by omega)).trans (f1 q (by omega))
  refine c_X10_round_3 ((ch2 _ (by simp only []; omega)).trans hO) ((ch2 _ (by simp only []; omega)).trans hof) (Rkin_fr2 (fun q hq => ch2 q (by omega)) hkin) (fbd_fr (ch2 _ (by simp only []; omega)) (fun i => ch2 _ (by simp only []; omega)) hbd) (fbd_fr (ch2 _ (by simp only []; omega)) (fun i => ch2 _ (by simp only []; omega)) hly) (fbd_fr (f2 _ (by simp only []; omega)) (fun i => f2 _ (by simp only []; omega)) on1) w1 w2 ⟨g, (ch2 _ (by simp only []; omega)).trans g1, g2⟩ hK hF hf eH eW hb hl (fun G3 f3 ly3 lf3 => ?_)
  have ch3 : ∀ q : Rl, q ≠ (25, f, 1) → ¬ (q.1 = 27 ∧ (q.2.1 = 8 * f + 1 ∨ q.2.1 = 8 * f + 3 ∨ q.2.1 = 8 * f + 4)) → G3 q = G q := fun q q1 q2 => (f3 q q1 (by omega)).trans (ch2 q (by omega))
  refine h G3 (fun q q1 q2 => ch3 q (fun z => q1 (by rw [z]; exact ⟨by simp only []; omega, rfl⟩)) (by omega)) (ch3 _ (rl_ne (by omega)) (by simp only []; omega)) ⟨fbd_fr (ch3 _ (rl_ne (by omega)) (by simp only []; omega)) (fun i => ch3 _ (rl_ne (by omega)) (by simp only []; omega)) hbd, ly3, ?_, ⟨wa, fbd_fr (f3 _ (rl_ne (by omega)) (by simp only []; omega)) (fun i => f3 _ (rl_ne (by omega)) (by simp only []; omega)) w1⟩, ⟨_, fbd_fr (f3 _ (rl_ne (by omega)) (by simp only []; omega)) (fun i => f3 _ (rl_ne (by omega)) (by simp only []; omega)) (fbd_fr (f2 _ (by simp only []; omega)) (fun i => f2 _ (by simp only []; omega)) on1)⟩, ?_, ?_⟩ lf3
  · obtain ⟨to, t1⟩ := hto
    exact ⟨to, fbd_fr (ch3 _ (rl_ne (by omega)) (by simp only []; omega)) (fun i => ch3 _ (rl_ne (by omega)) (by simp only []; omega)) t1⟩
  · obtain ⟨g, g1, g2⟩ := hsk
    exact ⟨g, (ch3 _ (rl_ne (by omega)) (by simp only []; omega)).trans g1, g2⟩
  · obtain ⟨g, g1, -⟩ := lf3
    exact ⟨g, g1⟩
end
