set_option maxRecDepth 10000
/-! what is forced -/
noncomputable def rd1 (σ : MS) (f : Int) (b l : Int → Int) (pl : Int) : Int := ic (opB σ f pl ∧ b pl = 0 ∧ nfB σ f b l pl = 1) (fi (fun n => cdB σ f b l pl n) (8 * σ.1 5)) (-1)
abbrev FB : Type := (Int → Int) × (Int → Int) × Int
def stQ (σ : MS) (f : Int) (T : Int → Int) (pl : Int) (X : FB) : Prop := opB σ f pl ∧ 0 ≤ T pl ∧ X.2.1 (T pl / 8) ≠ 0 ∧ mlB σ f X.1 pl (T pl + 1)
noncomputable def stF (σ : MS) (f : Int) (T : Int → Int) (pl : Int) (X : FB) : FB := @ite FB (stQ σ f T pl X) (Classical.propDecidable _) (iset X.1 pl (T pl + 1), iset X.2.1 (T pl / 8) (X.2.1 (T pl / 8) - 1), X.2.2 + 1) X
noncomputable def rdN (σ : MS) (f : Int) (T : Int → Int) (X : FB) : Nat → FB
  | 0 => X
  | n + 1 => stF σ f T n (rdN σ f T X n)
noncomputable def rnd (σ : MS) (f : Int) (b l : Int → Int) : FB := rdN σ f (rd1 σ f b l) (b, l, 0) 64
noncomputable def frN (σ : MS) (f : Int) : Nat → (Int → Int) → (Int → Int) → Int → Int × (Int → Int)
  | 0, b, _, n => (n, b)
  | k + 1, b, l, n => if (rnd σ f b l).2.2 = 0 then (n, (rnd σ f b l).1) else frN σ f k (rnd σ f b l).1 (rnd σ f b l).2.1 (n + (rnd σ f b l).2.2)
noncomputable def fcd (σ : MS) (f : Int) : Int × (Int → Int) := frN σ f 65 (fun _ => 0) (cutl σ (fun k => σ.2 39 (40 * f + k))) 0
theorem stF_t {σ : MS} {f pl : Int} {T : Int → Int} {X : FB} (h : stQ σ f T pl X) : stF σ f T pl X = (iset X.1 pl (T pl + 1), iset X.2.1 (T pl / 8) (X.2.1 (T pl / 8) - 1), X.2.2 + 1) := @if_pos _ (Classical.propDecidable _) h _ _ _
theorem stF_f {σ : MS} {f pl : Int} {T : Int → Int} {X : FB} (h : ¬ stQ σ f T pl X) : stF σ f T pl X = X := @if_neg _ (Classical.propDecidable _) h _ _ _
theorem rdN_skip {σ : MS} {f : Int} {T : Int → Int} {X : FB} : ∀ (j m : Nat), (∀ k : Int, (m : Int) ≤ k → k < m + j → ¬ opB σ f k) → rdN σ f T X (m + j) = rdN σ f T X m
  | 0, m, _ => rfl
  | j + 1, m, h => by
    show stF σ f T ((m + j : Nat) : Int) (rdN σ f T X (m + j)) = _
    rw [stF_f (fun q => h _ (by omega) (by omega) q.1), rdN_skip j m (fun k a b => h k a (by omega))]
theorem rdN_hi {σ : MS} {f : Int} {T : Int → Int} {X : FB} : ∀ (m : Nat) (k : Int), (m : Int) ≤ k → (rdN σ f T X m).1 k = X.1 k
  | 0, k, _ => rfl
  | m + 1, k, h => by
    show (stF σ f T m (rdN σ f T X m)).1 k = _
    by_cases q : stQ σ f T m (rdN σ f T X m)
    · rw [stF_t q]
      show iset (rdN σ f T X m).1 m _ k = _
      rw [iset_n (by omega)]
      exact rdN_hi m k (by omega)
    · rw [stF_f q]
      exact rdN_hi m k (by omega)
theorem rd1_cut {σ : MS} {f pl : Int} {b l : Int → Int} (hC : σ.2 36 f ≤ 8) : rd1 σ f (cut σ f b) (cutl σ l) pl = rd1 σ f b l pl := by
  unfold rd1
  by_cases ho : opB σ f pl
  · rw [cut_in ho.1, nfB_cut hC, fi_c (fun n n0 n1 => cdB_cut hC ⟨n0, n1⟩)]
  · rw [ic_f (fun q => ho q.1), ic_f (fun q => ho q.1)]
section
variable {d : Nat} {K : Option XV → GH → Prop} {G0 G : GH} {bc bs : Nat} {σ : MS} {M : tv_M} {pc pc' : Nat} {L : List (Option XV)} {st : List XV}
theorem c_X1_forced_r {f N : Int} {g : Int → Int} {v2 : Int} (hK : kok σ) (hF : fo1 σ) (hf : 0 ≤ f ∧ f < σ.1 40) (hO : OP σ f N g) (Z : Int × (Int → Int))
    (h : ∀ b l dt co, cut σ f b = Z.2 → K (some (xI Z.1)) (ov (nu (nu (nu (au (au (au (au (au σ 38 (shF σ f (zfl σ f) Z.2)) 44 b) 45 l) 46 g) 48 dt) 42 f) 43 N) 52 co) G0)) :
    ∀ (k : Nat) (b l dt : Int → Int) (co all came : Int) (x5 x6 : Option XV), 0 < came → ne_ σ f b < k → bok σ f b → lok σ l → (0 ≤ all ∧ all + ne_ σ f b ≤ 64) → frN σ f k (cut σ f b) (cutl σ l) all = Z →
      tvW mX1_forced (d + 7) K 21 [some (xR mR), some (xI f), some (xI v2), some (xI all), some (xI came), x5, x6] [] (ov (nu (nu (nu (au (au (au (au (au σ 38 (zfl σ f)) 44 (b)) 45 (l)) 46 g) 48 (dt)) 42 f) 43 N) 52 (co)) G0) bc bs := by
  have hK1 := hK.1
  have hF1 := hF.1
  obtain ⟨hR, hC, hto, hst⟩ := hF.2 _ hf.1 hf.2
  have hO' := hO
  obtain ⟨hN, o1, o2, o3⟩ := hO
  intro k
  induction k with
  | zero =>
    intro b l dt co all came x5 x6 hc hn
    have := ne_r (σ := σ) (f := f) (b := b)
    omega
  | succ k ih =>
    intro b l dt co all came x5 x6 hca hn hb hl hall hZ
    have hTdef : ∃ T, T = rd1 σ f (cut σ f b) (cutl σ l) := ⟨_, rfl⟩
    obtain ⟨T, hT⟩ := hTdef
    have hTr : ∀ pl, T pl = -1 ∨ 0 ≤ T pl ∧ T pl < 8 * σ.1 5 ∧ opB σ f pl ∧ b pl = 0 := by
      intro pl
      rw [hT, rd1_cut hC.2]
      unfold rd1
      by_cases q : opB σ f pl ∧ b pl = 0 ∧ nfB σ f b l pl = 1
      · rw [ic_t q]
        rcases fi_r (P := fun n => cdB σ f b l pl n) (n := 8 * σ.1 5) with w | w
        · exact Or.inl w
        · exact Or.inr ⟨w.1, w.2.1, q.1, q.2.1⟩
      · exact Or.inl (ic_f q)
    have hner := ne_r (σ := σ) (f := f) (b := b)
    -- the second half of a round
    have lay2 : ∀ (dt : Int → Int) (x5 x6 : Option XV), (∀ t, 0 ≤ t → t < N → dt t = T (g t)) → tvW mX1_forced (d + 7) K 100 [some (xR mR), some (xI f), some (xI v2), some (xI all), some (xI 0), x5, x6] [] (ov (nu (nu (nu (au (au (au (au (au σ 38 (zfl σ f)) 44 (b)) 45 (l)) 46 g) 48 (dt)) 42 f) 43 N) 52 (co)) G0) bc bs := by
      intro dt x5 x6 hdt
      refine w_iconst (pc' := 101) dX1_forced_100 rfl (by decide) ?_
      refine w_ist5 (pc' := 103) dX1_forced_101 rfl rfl ?_
      -- at 103: .iload 5
      try simp (decide := true) only [au_1, nu_2, au_lt, nu_lt, aw_e, nw_e, au_s, au_n, nu_s, nu_n, au_au, nu_nu, au_nu]
      refine up (T := fun t => ∀ (b' l' : Int → Int) (co' came : Int) (m : Nat) (x6 : Option XV), (cut σ f b', cutl σ l', came) = rdN σ f T (cut σ f b, cutl σ l, 0) m → (∀ t', 0 ≤ t' → t' < t → g t' < m) → (∀ t', t ≤ t' → t' < N → (m : Int) ≤ g t') → m ≤ 64 → bok σ f b' → lok σ l' → (0 ≤ came ∧ ne_ σ f b' + came = ne_ σ f b) → tvW mX1_forced (d + 7) K 103 [some (xR mR), some (xI f), some (xI v2), some (xI all), some (xI came), some (xI t), x6] [] (ov (nu (nu (nu (au (au (au (au (au σ 38 (zfl σ f)) 44 (b')) 45 (l')) 46 g) 48 (dt)) 42 f) 43 N) 52 (co')) G0) bc bs) N hN.1 (fun b' l' co' came m x6 hX hlo hhi hm hb' hl' hca => ?_) (fun t t0 t1 iht b' l' co' came m x6 hX hlo hhi hm hb' hl' hca => ?_) b l co 0 0 _ rfl (fun t' a b => by omega) (fun t' a b => by have := (o1 t' a b).1; omega) (by omega) hb hl (by omega)
      · have hX2 : (cut σ f b', cutl σ l', came) = rnd σ f (cut σ f b) (cutl σ l) := by
          unfold rnd
          rw [hX, ← hT]
          have := rdN_skip (σ := σ) (f := f) (T := T) (X := (cut σ f b, cutl σ l, 0)) (64 - m) m (fun k' a1 a2 q => by
            obtain ⟨t', b0, b1', b2⟩ := o3 k' q
            have := hlo t' b0 b1'
            omega)
          rw [show m + (64 - m) = 64 by omega] at this
          exact this.symm
        have hne' := ne_r (σ := σ) (f := f) (b := b')
        unfold frN at hZ
        rw [← hX2] at hZ
        simp only at hZ
        refine w_iload (pc' := 105) dX1_forced_103 rfl rfl ?_
        refine w_aload_n (pc' := 106) dX1_forced_105 rfl rfl ?_
        refine w_mgi 43 (pc' := 109) dX1_forced_106 rfl fX1_307_1 rfl ?_
        -- at 109: .if_icmp .ge 83
        try simp (decide := true) only [au_1, nu_2, au_lt, nu_lt, aw_e, nw_e, au_s, au_n, nu_s, nu_n, au_au, nu_nu, au_nu]
        refine w_icmp_ge (pc' := 112) (tgt := 192) dX1_forced_109 rfl rfl (fun h_ => ?_) (fun h_ => False.elim (by first | omega | (simp (decide := true) only [au_1, nu_2, au_lt, nu_lt, aw_e, nw_e, au_s, au_n, nu_s, nu_n, au_au, nu_nu, au_nu] at h_; omega)))
        refine w_iload_n (pc' := 193) dX1_forced_192 rfl rfl ?_
        refine w_iload (pc' := 195) dX1_forced_193 rfl rfl ?_
        refine w_iadd (pc' := 196) dX1_forced_195 rfl ⟨by first | omega | (simp (decide := true) only [au_1, nu_2, au_lt, nu_lt, aw_e, nw_e, au_s, au_n, nu_s, nu_n, au_au, nu_nu, au_nu]; omega), by first | omega | (simp (decide := true) only [au_1, nu_2, au_lt, nu_lt, aw_e, nw_e, au_s, au_n, nu_s, nu_n, au_au, nu_nu, au_nu]; omega)⟩ ?_
        refine w_ist3 (pc' := 197) dX1_forced_196 rfl rfl ?_
        refine w_goto (tgt := 21) dX1_forced_197 rfl ?_
        -- at 21: .iload 4
        try simp (decide := true) only [au_1, nu_2, au_lt, nu_lt, aw_e, nw_e, au_s, au_n, nu_s, nu_n, au_au, nu_nu, au_nu]
        by_cases hc0 : came = 0
        · rw [if_pos hc0] at hZ
          refine w_iload (pc' := 23) dX1_forced_21 rfl rfl ?_
          -- at 23: .ifCond .le 177
          try simp (decide := true) only [au_1, nu_2, au_lt, nu_lt, aw_e, nw_e, au_s, au_n, nu_s, nu_n, au_au, nu_nu, au_nu]
          refine w_if_le (pc' := 26) (tgt := 200) dX1_forced_23 rfl rfl (fun h_ => ?_) (fun h_ => False.elim (by first | omega | (simp (decide := true) only [au_1, nu_2, au_lt, nu_lt, aw_e, nw_e, au_s, au_n, nu_s, nu_n, au_au, nu_nu, au_nu] at h_; omega)))
          refine w_aload_n (pc' := 201) dX1_forced_200 rfl rfl ?_
          -- at 201: .invokevirtual 338
          try simp (decide := true) only [au_1, nu_2, au_lt, nu_lt, aw_e, nw_e, au_s, au_n, nu_s, nu_n, au_au, nu_nu, au_nu]
          refine w_callV0 (pc' := 204) (mc := 0) (ms := 0) dX1_forced_201 rfl tX1_show q1549 rfl rfl qs75 q1547 ov_o rfl (Nat.le_of_ble_eq_true rfl) (Nat.le_of_ble_eq_true rfl) ?_
          refine c_X1_show (show fo1 _ from hF) (show 0 ≤ f ∧ f < σ.1 40 from hf) (show OP _ f N g from hO') ?_
          refine w_p0 ?_
          try simp (decide := true) only [au_1, nu_2, au_lt, nu_lt, aw_e, nw_e, au_s, au_n, nu_s, nu_n, au_au, nu_nu, au_nu]
          refine w_iload_n (pc' := 205) dX1_forced_204 rfl rfl ?_
          -- at 205: .ireturn
          try simp (decide := true) only [au_1, nu_2, au_lt, nu_lt, aw_e, nw_e, au_s, au_n, nu_s, nu_n, au_au, nu_nu, au_nu]
          refine w_ireturn dX1_forced_205 rfl ?_
          have := h b' l' dt co' (by rw [← hZ])
          rw [← hZ] at this
          simp only at this
          rw [show shF σ f (zfl σ f) (cut σ f b') = shF σ f (zfl σ f) b' from shF_cut] at this
          rw [hc0, Int.add_zero]
          exact this
        · rw [if_neg hc0] at hZ
          exact ih b' l' dt co' (all + came) came _ _ (by omega) (by omega) hb' hl' (by omega) hZ
      · have hop := o1 t t0 t1
        have hop1 := hop.1
        have hmt := hhi t (Int.le_refl _) t1
        have hX1 : (cut σ f b', cutl σ l', came) = rdN σ f T (cut σ f b, cutl σ l, 0) (g t).toNat := by
          rw [hX]
          have := rdN_skip (σ := σ) (f := f) (T := T) (X := (cut σ f b, cutl σ l, 0)) ((g t).toNat - m) m (fun k' a1 a2 q => by
            obtain ⟨t', b0, b1', b2⟩ := o3 k' q
            by_cases w : t' < t
            · have := hlo t' b0 w; omega
            · by_cases w2 : t' = t
              · rw [w2] at b2; omega
              · have := o2 t t' t0 (by omega) b1'; omega)
          rw [show m + ((g t).toNat - m) = (g t).toNat by omega] at this
          exact this.symm
        have hS : rdN σ f T (cut σ f b, cutl σ l, 0) ((g t).toNat + 1) = stF σ f T (g t) (cut σ f b', cutl σ l', came) := by
          show stF σ f T (((g t).toNat : Nat) : Int) (rdN σ f T (cut σ f b, cutl σ l, 0) (g t).toNat) = _
          rw [← hX1, show (((g t).toNat : Nat) : Int) = g t by omega]
        have hdtt := hdt t t0 t1
        have lo2 : ∀ t', 0 ≤ t' → t' < t + 1 → g t' < ((g t).toNat + 1 : Nat) := by
          intro t' q0 q1
          by_cases w : t' = t
          · rw [w]; omega
          · have := o2 t' t q0 (by omega) t1; omega
        have hi2 : ∀ t', t + 1 ≤ t' → t' < N → (((g t).toNat + 1 : Nat) : Int) ≤ g t' := by
          intro t' q0 q1
          have := o2 t t' t0 (by omega) q1; omega
        have no : ¬ stQ σ f T (g t) (cut σ f b', cutl σ l', came) → tvW mX1_forced (d + 7) K 186 [some (xR mR), some (xI f), some (xI v2), some (xI all), some (xI came), some (xI t), some (xI (T (g t)))] [] (ov (nu (nu (nu (au (au (au (au (au σ 38 (zfl σ f)) 44 (b')) 45 (l')) 46 g) 48 (dt)) 42 f) 43 N) 52 (co')) G0) bc bs := by
          intro q
          rw [stF_f q] at hS
          refine w_inc5 (pc' := 189) dX1_forced_186 rfl rfl ⟨by first | omega | (simp (decide := true) only [au_1, nu_2, au_lt, nu_lt, aw_e, nw_e, au_s, au_n, nu_s, nu_n, au_au, nu_nu, au_nu]; omega), by first | omega | (simp (decide := true) only [au_1, nu_2, au_lt, nu_lt, aw_e, nw_e, au_s, au_n, nu_s, nu_n, au_au, nu_nu, au_nu]; omega)⟩ ?_
          refine w_goto (tgt := 103) dX1_forced_189 rfl ?_
          -- at 103: .iload 5
          try simp (decide := true) only [au_1, nu_2, au_lt, nu_lt, aw_e, nw_e, au_s, au_n, nu_s, nu_n, au_au, nu_nu, au_nu]
          exact iht b' l' co' came _ _ hS.symm lo2 hi2 (by omega) hb' hl' hca
        have hne' := ne_r (σ := σ) (f := f) (b := b')
        refine w_iload (pc' := 105) dX1_forced_103 rfl rfl ?_
        refine w_aload_n (pc' := 106) dX1_forced_105 rfl rfl ?_
        refine w_mgi 43 (pc' := 109) dX1_forced_106 rfl fX1_307_1 rfl ?_
        -- at 109: .if_icmp .ge 83
        try simp (decide := true) only [au_1, nu_2, au_lt, nu_lt, aw_e, nw_e, au_s, au_n, nu_s, nu_n, au_au, nu_nu, au_nu]
        refine w_icmp_ge (pc' := 112) (tgt := 192) dX1_forced_109 rfl rfl (fun h_ => False.elim (by first | omega | (simp (decide := true) only [au_1, nu_2, au_lt, nu_lt, aw_e, nw_e, au_s, au_n, nu_s, nu_n, au_au, nu_nu, au_nu] at h_; omega))) (fun h_ => ?_)
        refine w_aload_n (pc' := 113) dX1_forced_112 rfl rfl ?_
        refine w_mga 48 (pc' := 116) dX1_forced_113 rfl fX1_115_1 rfl ?_
        refine w_iload (pc' := 118) dX1_forced_116 rfl rfl ?_
        refine w_mild (pc' := 119) dX1_forced_118 rfl rfl (by first | omega | (simp (decide := true) only [au_1, nu_2, au_lt, nu_lt, aw_e, nw_e, au_s, au_n, nu_s, nu_n, au_au, nu_nu, au_nu]; omega)) (by first | omega | (simp (decide := true) only [au_1, nu_2, au_lt, nu_lt, aw_e, nw_e, au_s, au_n, nu_s, nu_n, au_au, nu_nu, au_nu]; omega)) ?_
        -- at 119: .istore 6
        try simp (decide := true) only [au_1, nu_2, au_lt, nu_lt, aw_e, nw_e, au_s, au_n, nu_s, nu_n, au_au, nu_nu, au_nu]
        rw [hdtt]
        refine w_ist6 (pc' := 121) dX1_forced_119 rfl rfl ?_
        refine w_iload (pc' := 123) dX1_forced_121 rfl rfl ?_
        -- at 123: .ifCond .lt 63
        try simp (decide := true) only [au_1, nu_2, au_lt, nu_lt, aw_e, nw_e, au_s, au_n, nu_s, nu_n, au_au, nu_nu, au_nu]
        refine w_if_lt (pc' := 126) (tgt := 186) dX1_forced_123 rfl rfl (fun g1 => ?_) (fun g1 => ?_)
        · exact no (fun q => by have := q.2.1; omega)
        · obtain ⟨n0, n1, -, bz⟩ : 0 ≤ T (g t) ∧ T (g t) < 8 * σ.1 5 ∧ opB σ f (g t) ∧ b (g t) = 0 := by
            rcases hTr (g t) with w | w
            · omega
            · exact w
          have hkn : 0 ≤ T (g t) / 8 ∧ T (g t) / 8 < σ.1 5 := by omega
          have hln := hl' _ hkn.1 hkn.2
          have c3 : cutl σ l' (T (g t) / 8) = l' (T (g t) / 8) := cutl_in hkn
          have bz' : b' (g t) = 0 := by
            have e1 := rdN_hi (σ := σ) (f := f) (T := T) (X := (cut σ f b, cutl σ l, 0)) (g t).toNat (g t) (by omega)
            rw [← hX1] at e1
            have e1 : cut σ f b' (g t) = cut σ f b (g t) := e1
            rw [cut_in hop.1, cut_in hop.1, bz] at e1
            exact e1
          refine w_aload_n (pc' := 127) dX1_forced_126 rfl rfl ?_
          refine w_mga 45 (pc' := 130) dX1_forced_127 rfl fX1_106_1 rfl ?_
          refine w_iload (pc' := 132) dX1_forced_130 rfl rfl ?_
          refine w_bipush (pc' := 134) dX1_forced_132 rfl (by decide +kernel) (by decide) ?_
          refine w_idiv (pc' := 135) dX1_forced_134 rfl (by first | omega | (simp (decide := true) only [au_1, nu_2, au_lt, nu_lt, aw_e, nw_e, au_s, au_n, nu_s, nu_n, au_au, nu_nu, au_nu]; omega)) (by first | omega | (simp (decide := true) only [au_1, nu_2, au_lt, nu_lt, aw_e, nw_e, au_s, au_n, nu_s, nu_n, au_au, nu_nu, au_nu]; omega)) ?_
          refine w_mild (pc' := 136) dX1_forced_135 rfl rfl (by first | omega | (simp (decide := true) only [au_1, nu_2, au_lt, nu_lt, aw_e, nw_e, au_s, au_n, nu_s, nu_n, au_au, nu_nu, au_nu]; omega)) (by first | omega | (simp (decide := true) only [au_1, nu_2, au_lt, nu_lt, aw_e, nw_e, au_s, au_n, nu_s, nu_n, au_au, nu_nu, au_nu]; omega)) ?_
          -- at 136: .ifCond .eq 50
          try simp (decide := true) only [au_1, nu_2, au_lt, nu_lt, aw_e, nw_e, au_s, au_n, nu_s, nu_n, au_au, nu_nu, au_nu]
          refine w_if_eq (pc' := 139) (tgt := 186) dX1_forced_136 rfl rfl (fun g2 => ?_) (fun g2 => ?_)
          · exact no (fun q => q.2.2.1 (by show cutl σ l' _ = 0; rw [c3]; exact g2))
          · refine w_aload_n (pc' := 140) dX1_forced_139 rfl rfl ?_
            refine w_aload_n (pc' := 141) dX1_forced_140 rfl rfl ?_
            refine w_mga 46 (pc' := 144) dX1_forced_141 rfl fX1_109_1 rfl ?_
            refine w_iload (pc' := 146) dX1_forced_144 rfl rfl ?_
            refine w_mild (pc' := 147) dX1_forced_146 rfl rfl (by first | omega | (simp (decide := true) only [au_1, nu_2, au_lt, nu_lt, aw_e, nw_e, au_s, au_n, nu_s, nu_n, au_au, nu_nu, au_nu]; omega)) (by first | omega | (simp (decide := true) only [au_1, nu_2, au_lt, nu_lt, aw_e, nw_e, au_s, au_n, nu_s, nu_n, au_au, nu_nu, au_nu]; omega)) ?_
            refine w_iload (pc' := 149) dX1_forced_147 rfl rfl ?_
            refine w_bipush (pc' := 151) dX1_forced_149 rfl (by decide +kernel) (by decide) ?_
            refine w_idiv (pc' := 152) dX1_forced_151 rfl (by first | omega | (simp (decide := true) only [au_1, nu_2, au_lt, nu_lt, aw_e, nw_e, au_s, au_n, nu_s, nu_n, au_au, nu_nu, au_nu]; omega)) (by first | omega | (simp (decide := true) only [au_1, nu_2, au_lt, nu_lt, aw_e, nw_e, au_s, au_n, nu_s, nu_n, au_au, nu_nu, au_nu]; omega)) ?_
            refine w_iload (pc' := 154) dX1_forced_152 rfl rfl ?_
            refine w_bipush (pc' := 156) dX1_forced_154 rfl (by decide +kernel) (by decide) ?_
            refine w_irem (pc' := 157) dX1_forced_156 rfl (by first | omega | (simp (decide := true) only [au_1, nu_2, au_lt, nu_lt, aw_e, nw_e, au_s, au_n, nu_s, nu_n, au_au, nu_nu, au_nu]; omega)) (by first | omega | (simp (decide := true) only [au_1, nu_2, au_lt, nu_lt, aw_e, nw_e, au_s, au_n, nu_s, nu_n, au_au, nu_nu, au_nu]; omega)) ?_
            refine w_iconst (pc' := 158) dX1_forced_157 rfl (by decide) ?_
            -- at 158: .invokestatic 166
            try simp (decide := true) only [au_1, nu_2, au_lt, nu_lt, aw_e, nw_e, au_s, au_n, nu_s, nu_n, au_au, nu_nu, au_nu]
            refine w_callS3 (pc' := 161) (mc := 0) (ms := 0) dX1_forced_158 rfl tX1_cell q1329 q1328 rfl (Nat.le_of_ble_eq_true rfl) (Nat.le_of_ble_eq_true rfl) ?_
            refine c_X1_cell ⟨hkn.1, by omega⟩ ⟨by omega, by omega⟩ ⟨by omega, by omega⟩ ?_
            refine w_p1 ?_
            rw [cel_n]
            refine w_callV2 (pc' := 164) (mc := 0) (ms := 0) dX1_forced_161 rfl tX1_mayLie q1521 rfl rfl qs68 q1519 ov_o rfl (Nat.le_of_ble_eq_true rfl) (Nat.le_of_ble_eq_true rfl) ?_
            refine c_X1_mayLie (show kok _ from hK) (show fo1 _ from hF) (show 0 ≤ f ∧ f < σ.1 40 from hf) (show bok _ f b' from hb') (show 0 ≤ g t ∧ g t < 64 by omega) (show isC (σ.1 5) _ from isC_of ⟨by omega, by omega⟩ hK1.2) (fun q => w_p1 ?_) (fun q => w_p1 ?_)
            · have q : mlB σ f b' (g t) (T (g t) + 1) := q
              have hq : stQ σ f T (g t) (cut σ f b', cutl σ l', came) := ⟨hop, n0, by show cutl σ l' _ ≠ 0; rw [c3]; exact g2, (mlB_cut hC.2).mpr q⟩
              rw [stF_t hq] at hS
              simp only at hS
              rw [c3, ← cut_iset hop.1, ← cutl_iset hkn] at hS
              have hns := ne_set (v := T (g t) + 1) (by omega) (by omega) hop bz' (by omega)
              refine w_if_ne (pc' := 167) (tgt := 170) dX1_forced_164 rfl rfl (fun h_ => ?_) (fun h_ => False.elim (by first | omega | (simp (decide := true) only [au_1, nu_2, au_lt, nu_lt, aw_e, nw_e, au_s, au_n, nu_s, nu_n, au_au, nu_nu, au_nu] at h_; omega)))
              refine w_aload_n (pc' := 171) dX1_forced_170 rfl rfl ?_
              refine w_aload_n (pc' := 172) dX1_forced_171 rfl rfl ?_
              refine w_mga 46 (pc' := 175) dX1_forced_172 rfl fX1_109_1 rfl ?_
              refine w_iload (pc' := 177) dX1_forced_175 rfl rfl ?_
              refine w_mild (pc' := 178) dX1_forced_177 rfl rfl (by first | omega | (simp (decide := true) only [au_1, nu_2, au_lt, nu_lt, aw_e, nw_e, au_s, au_n, nu_s, nu_n, au_au, nu_nu, au_nu]; omega)) (by first | omega | (simp (decide := true) only [au_1, nu_2, au_lt, nu_lt, aw_e, nw_e, au_s, au_n, nu_s, nu_n, au_au, nu_nu, au_nu]; omega)) ?_
              refine w_iload (pc' := 180) dX1_forced_178 rfl rfl ?_
              -- at 180: .invokevirtual 348
              try simp (decide := true) only [au_1, nu_2, au_lt, nu_lt, aw_e, nw_e, au_s, au_n, nu_s, nu_n, au_au, nu_nu, au_nu]
              refine w_callV2 (pc' := 183) (mc := 0) (ms := 0) dX1_forced_180 rfl tX1_lay q1558 rfl rfl qs77 q1556 ov_o rfl (Nat.le_of_ble_eq_true rfl) (Nat.le_of_ble_eq_true rfl) ?_
              refine c_X1_lay (show kok _ from hK) (show 0 ≤ g t ∧ g t < 64 by omega) (show 0 ≤ T (g t) ∧ T (g t) < 8 * σ.1 5 by omega) (show -1000 ≤ l' (T (g t) / 8) ∧ l' (T (g t) / 8) ≤ 1000 by omega) ?_
              refine w_p0 ?_
              try simp (decide := true) only [au_1, nu_2, au_lt, nu_lt, aw_e, nw_e, au_s, au_n, nu_s, nu_n, au_au, nu_nu, au_nu]
              refine w_inc4 (pc' := 186) dX1_forced_183 rfl rfl ⟨by first | omega | (simp (decide := true) only [au_1, nu_2, au_lt, nu_lt, aw_e, nw_e, au_s, au_n, nu_s, nu_n, au_au, nu_nu, au_nu]; omega), by first | omega | (simp (decide := true) only [au_1, nu_2, au_lt, nu_lt, aw_e, nw_e, au_s, au_n, nu_s, nu_n, au_au, nu_nu, au_nu]; omega)⟩ ?_
              refine w_inc5 (pc' := 189) dX1_forced_186 rfl rfl ⟨by first | omega | (simp (decide := true) only [au_1, nu_2, au_lt, nu_lt, aw_e, nw_e, au_s, au_n, nu_s, nu_n, au_au, nu_nu, au_nu]; omega), by first | omega | (simp (decide := true) only [au_1, nu_2, au_lt, nu_lt, aw_e, nw_e, au_s, au_n, nu_s, nu_n, au_au, nu_nu, au_nu]; omega)⟩ ?_
              refine w_goto (tgt := 103) dX1_forced_189 rfl ?_
              -- at 103: .iload 5
              try simp (decide := true) only [au_1, nu_2, au_lt, nu_lt, aw_e, nw_e, au_s, au_n, nu_s, nu_n, au_au, nu_nu, au_nu]
              refine iht _ _ _ (came + 1) _ _ hS.symm lo2 hi2 (by omega) ?_ ?_ (by omega)
              · intro k' k0 k1 k2
                by_cases e : k' = g t
                · rw [e, iset_s]; omega
                · rw [iset_n e]; exact hb' k' k0 k1 k2
              · intro k' k0 k1
                by_cases e : k' = T (g t) / 8
                · rw [e, iset_s]; omega
                · rw [iset_n e]; exact hl' k' k0 k1
            · have q : ¬ mlB σ f b' (g t) (T (g t) + 1) := q
              refine w_if_ne (pc' := 167) (tgt := 170) dX1_forced_164 rfl rfl (fun h_ => False.elim (by first | omega | (simp (decide := true) only [au_1, nu_2, au_lt, nu_lt, aw_e, nw_e, au_s, au_n, nu_s, nu_n, au_au, nu_nu, au_nu] at h_; omega))) (fun h_ => ?_)
              refine w_goto (tgt := 186) dX1_forced_167 rfl ?_
              -- at 186: .iinc 5 1
              try simp (decide := true) only [au_1, nu_2, au_lt, nu_lt, aw_e, nw_e, au_s, au_n, nu_s, nu_n, au_au, nu_nu, au_nu]
              exact no (fun w => q ((mlB_cut hC.2).mp w.2.2.2))
    refine w_iload (pc' := 23) dX1_forced_21 rfl rfl ?_
    -- at 23: .ifCond .le 177
    try simp (decide := true) only [au_1, nu_2, au_lt, nu_lt, aw_e, nw_e, au_s, au_n, nu_s, nu_n, au_au, nu_nu, au_nu]
    refine w_if_le (pc' := 26) (tgt := 200) dX1_forced_23 rfl rfl (fun h_ => False.elim (by first | omega | (simp (decide := true) only [au_1, nu_2, au_lt, nu_lt, aw_e, nw_e, au_s, au_n, nu_s, nu_n, au_au, nu_nu, au_nu] at h_; omega))) (fun h_ => ?_)
    refine w_iconst (pc' := 27) dX1_forced_26 rfl (by decide) ?_
    refine w_ist4 (pc' := 29) dX1_forced_27 rfl rfl ?_
    refine w_iconst (pc' := 30) dX1_forced_29 rfl (by decide) ?_
    refine w_ist5 (pc' := 32) dX1_forced_30 rfl rfl ?_
    -- at 32: .iload 5
    try simp (decide := true) only [au_1, nu_2, au_lt, nu_lt, aw_e, nw_e, au_s, au_n, nu_s, nu_n, au_au, nu_nu, au_nu]
    refine up (T := fun t => ∀ (dt : Int → Int), (∀ t', 0 ≤ t' → t' < t → dt t' = T (g t')) → tvW mX1_forced (d + 7) K 32 [some (xR mR), some (xI f), some (xI v2), some (xI all), some (xI 0), some (xI t), x6] [] (ov (nu (nu (nu (au (au (au (au (au σ 38 (zfl σ f)) 44 (b)) 45 (l)) 46 g) 48 (dt)) 42 f) 43 N) 52 (co)) G0) bc bs) N hN.1 (fun dt hdt => ?_) (fun t t0 t1 iht dt hdt => ?_) dt (fun t' a b => by omega)
    · refine w_iload (pc' := 34) dX1_forced_32 rfl rfl ?_
      refine w_aload_n (pc' := 35) dX1_forced_34 rfl rfl ?_
      refine w_mgi 43 (pc' := 38) dX1_forced_35 rfl fX1_307_1 rfl ?_
      -- at 38: .if_icmp .ge 62
      try simp (decide := true) only [au_1, nu_2, au_lt, nu_lt, aw_e, nw_e, au_s, au_n, nu_s, nu_n, au_au, nu_nu, au_nu]
      refine w_icmp_ge (pc' := 41) (tgt := 100) dX1_forced_38 rfl rfl (fun h_ => ?_) (fun h_ => False.elim (by first | omega | (simp (decide := true) only [au_1, nu_2, au_lt, nu_lt, aw_e, nw_e, au_s, au_n, nu_s, nu_n, au_au, nu_nu, au_nu] at h_; omega)))
      exact lay2 dt _ _ hdt
    · have hop := o1 t t0 t1
      have hop1 := hop.1
      have nx : ∀ v, v = T (g t) → ∀ t', 0 ≤ t' → t' < t + 1 → iset dt t v t' = T (g t') := by
        intro v hv t' q0 q1
        by_cases e : t' = t
        · rw [e, iset_s, hv]
        · rw [iset_n e]; exact hdt t' q0 (by omega)
      have eT : T (g t) = rd1 σ f b l (g t) := by rw [hT, rd1_cut hC.2]
      have no : ¬ (opB σ f (g t) ∧ b (g t) = 0 ∧ nfB σ f b l (g t) = 1) → tvW mX1_forced (d + 7) K 92 [some (xR mR), some (xI f), some (xI v2), some (xI all), some (xI 0), some (xI t), x6] [xI t, xR (mr 48)] (ov (nu (nu (nu (au (au (au (au (au σ 38 (zfl σ f)) 44 (b)) 45 (l)) 46 g) 48 (dt)) 42 f) 43 N) 52 (co)) G0) bc bs := by
        intro q
        refine w_iconst (pc' := 93) dX1_forced_92 rfl (by decide) ?_
        refine w_aui (pc' := 94) dX1_forced_93 rfl rfl (by first | omega | (simp (decide := true) only [au_1, nu_2, au_lt, nu_lt, aw_e, nw_e, au_s, au_n, nu_s, nu_n, au_au, nu_nu, au_nu]; omega)) (by first | omega | (simp (decide := true) only [au_1, nu_2, au_lt, nu_lt, aw_e, nw_e, au_s, au_n, nu_s, nu_n, au_au, nu_nu, au_nu]; omega)) ?_
        try simp (decide := true) only [au_1, nu_2, au_lt, nu_lt, aw_e, nw_e, au_s, au_n, nu_s, nu_n, au_au, nu_nu, au_nu]
        refine w_inc5 (pc' := 97) dX1_forced_94 rfl rfl ⟨by first | omega | (simp (decide := true) only [au_1, nu_2, au_lt, nu_lt, aw_e, nw_e, au_s, au_n, nu_s, nu_n, au_au, nu_nu, au_nu]; omega), by first | omega | (simp (decide := true) only [au_1, nu_2, au_lt, nu_lt, aw_e, nw_e, au_s, au_n, nu_s, nu_n, au_au, nu_nu, au_nu]; omega)⟩ ?_
        refine w_goto (tgt := 32) dX1_forced_97 rfl ?_
        -- at 32: .iload 5
        try simp (decide := true) only [au_1, nu_2, au_lt, nu_lt, aw_e, nw_e, au_s, au_n, nu_s, nu_n, au_au, nu_nu, au_nu]
        exact iht _ (nx _ (by rw [eT]; exact (ic_f q).symm))
      refine w_iload (pc' := 34) dX1_forced_32 rfl rfl ?_
      refine w_aload_n (pc' := 35) dX1_forced_34 rfl rfl ?_
      refine w_mgi 43 (pc' := 38) dX1_forced_35 rfl fX1_307_1 rfl ?_
      -- at 38: .if_icmp .ge 62
      try simp (decide := true) only [au_1, nu_2, au_lt, nu_lt, aw_e, nw_e, au_s, au_n, nu_s, nu_n, au_au, nu_nu, au_nu]
      refine w_icmp_ge (pc' := 41) (tgt := 100) dX1_forced_38 rfl rfl (fun h_ => False.elim (by first | omega | (simp (decide := true) only [au_1, nu_2, au_lt, nu_lt, aw_e, nw_e, au_s, au_n, nu_s, nu_n, au_au, nu_nu, au_nu] at h_; omega))) (fun h_ => ?_)
      refine w_aload_n (pc' := 42) dX1_forced_41 rfl rfl ?_
      refine w_mga 48 (pc' := 45) dX1_forced_42 rfl fX1_115_1 rfl ?_
      refine w_iload (pc' := 47) dX1_forced_45 rfl rfl ?_
      refine w_aload_n (pc' := 48) dX1_forced_47 rfl rfl ?_
      refine w_mga 44 (pc' := 51) dX1_forced_48 rfl fX1_103_1 rfl ?_
      refine w_aload_n (pc' := 52) dX1_forced_51 rfl rfl ?_
      refine w_mga 46 (pc' := 55) dX1_forced_52 rfl fX1_109_1 rfl ?_
      refine w_iload (pc' := 57) dX1_forced_55 rfl rfl ?_
      refine w_mild (pc' := 58) dX1_forced_57 rfl rfl (by first | omega | (simp (decide := true) only [au_1, nu_2, au_lt, nu_lt, aw_e, nw_e, au_s, au_n, nu_s, nu_n, au_au, nu_nu, au_nu]; omega)) (by first | omega | (simp (decide := true) only [au_1, nu_2, au_lt, nu_lt, aw_e, nw_e, au_s, au_n, nu_s, nu_n, au_au, nu_nu, au_nu]; omega)) ?_
      refine w_mild (pc' := 59) dX1_forced_58 rfl rfl (by first | omega | (simp (decide := true) only [au_1, nu_2, au_lt, nu_lt, aw_e, nw_e, au_s, au_n, nu_s, nu_n, au_au, nu_nu, au_nu]; omega)) (by first | omega | (simp (decide := true) only [au_1, nu_2, au_lt, nu_lt, aw_e, nw_e, au_s, au_n, nu_s, nu_n, au_au, nu_nu, au_nu]; omega)) ?_
      -- at 59: .ifCond .ne 33
      try simp (decide := true) only [au_1, nu_2, au_lt, nu_lt, aw_e, nw_e, au_s, au_n, nu_s, nu_n, au_au, nu_nu, au_nu]
      refine w_if_ne (pc' := 62) (tgt := 92) dX1_forced_59 rfl rfl (fun g1 => ?_) (fun g1 => ?_)
      · exact no (fun q => g1 q.2.1)
      · refine w_aload_n (pc' := 63) dX1_forced_62 rfl rfl ?_
        refine w_aload_n (pc' := 64) dX1_forced_63 rfl rfl ?_
        refine w_mga 46 (pc' := 67) dX1_forced_64 rfl fX1_109_1 rfl ?_
        refine w_iload (pc' := 69) dX1_forced_67 rfl rfl ?_
        refine w_mild (pc' := 70) dX1_forced_69 rfl rfl (by first | omega | (simp (decide := true) only [au_1, nu_2, au_lt, nu_lt, aw_e, nw_e, au_s, au_n, nu_s, nu_n, au_au, nu_nu, au_nu]; omega)) (by first | omega | (simp (decide := true) only [au_1, nu_2, au_lt, nu_lt, aw_e, nw_e, au_s, au_n, nu_s, nu_n, au_au, nu_nu, au_nu]; omega)) ?_
        -- at 70: .invokevirtual 310
        try simp (decide := true) only [au_1, nu_2, au_lt, nu_lt, aw_e, nw_e, au_s, au_n, nu_s, nu_n, au_au, nu_nu, au_nu]
        refine w_callV1 (pc' := 73) (mc := 0) (ms := 0) dX1_forced_70 rfl tX1_fitting q1541 rfl rfl qs73 q1539 ov_o rfl (Nat.le_of_ble_eq_true rfl) (Nat.le_of_ble_eq_true rfl) ?_
        refine c_X1_fitting (show kok _ from hK) (show fo1 _ from hF) (show 0 ≤ f ∧ f < σ.1 40 from hf) (show bok _ f b from hb) (show 0 ≤ g t ∧ g t < 64 by omega) ?_
        refine w_p1 ?_
        refine w_st (st' := [xI (nfB σ f b l (g t)), xI t, xR (mr 48)]) rfl ?_
        refine w_iconst (pc' := 74) dX1_forced_73 rfl (by decide) ?_
        -- at 74: .if_icmp .ne 18
        try simp (decide := true) only [au_1, nu_2, au_lt, nu_lt, aw_e, nw_e, au_s, au_n, nu_s, nu_n, au_au, nu_nu, au_nu]
        refine w_icmp_ne (pc' := 77) (tgt := 92) dX1_forced_74 rfl rfl (fun g2 => ?_) (fun g2 => ?_)
        · exact no (fun q => g2 q.2.2)
        · have hrd : rd1 σ f b l (g t) = fi (fun n => cdB σ f b l (g t) n) (8 * σ.1 5) := ic_t ⟨hop, g1, g2⟩
          refine w_aload_n (pc' := 78) dX1_forced_77 rfl rfl ?_
          refine w_aload_n (pc' := 79) dX1_forced_78 rfl rfl ?_
          refine w_mga 46 (pc' := 82) dX1_forced_79 rfl fX1_109_1 rfl ?_
          refine w_iload (pc' := 84) dX1_forced_82 rfl rfl ?_
          refine w_mild (pc' := 85) dX1_forced_84 rfl rfl (by first | omega | (simp (decide := true) only [au_1, nu_2, au_lt, nu_lt, aw_e, nw_e, au_s, au_n, nu_s, nu_n, au_au, nu_nu, au_nu]; omega)) (by first | omega | (simp (decide := true) only [au_1, nu_2, au_lt, nu_lt, aw_e, nw_e, au_s, au_n, nu_s, nu_n, au_au, nu_nu, au_nu]; omega)) ?_
          refine w_iconst (pc' := 86) dX1_forced_85 rfl (by decide) ?_
          -- at 86: .invokevirtual 304
          try simp (decide := true) only [au_1, nu_2, au_lt, nu_lt, aw_e, nw_e, au_s, au_n, nu_s, nu_n, au_au, nu_nu, au_nu]
          refine w_callV2 (pc' := 89) (mc := 0) (ms := 0) dX1_forced_86 rfl tX1_nextFitting q1545 rfl rfl qs74 q1543 ov_o rfl (Nat.le_of_ble_eq_true rfl) (Nat.le_of_ble_eq_true rfl) ?_
          refine c_X1_nextFitting (show kok _ from hK) (show fo1 _ from hF) (show 0 ≤ f ∧ f < σ.1 40 from hf) (show bok _ f b from hb) (show 0 ≤ g t ∧ g t < 64 by omega) (show 0 ≤ 0 ∧ 0 ≤ 8 * σ.1 5 by omega) (fun n' m0' m1' hc' hn' => w_p1 ?_) (fun hn' => w_p1 ?_)
          · refine w_goto (tgt := 93) dX1_forced_89 rfl ?_
            refine w_aui (pc' := 94) dX1_forced_93 rfl rfl (by first | omega | (simp (decide := true) only [au_1, nu_2, au_lt, nu_lt, aw_e, nw_e, au_s, au_n, nu_s, nu_n, au_au, nu_nu, au_nu]; omega)) (by first | omega | (simp (decide := true) only [au_1, nu_2, au_lt, nu_lt, aw_e, nw_e, au_s, au_n, nu_s, nu_n, au_au, nu_nu, au_nu]; omega)) ?_
            try simp (decide := true) only [au_1, nu_2, au_lt, nu_lt, aw_e, nw_e, au_s, au_n, nu_s, nu_n, au_au, nu_nu, au_nu]
            refine w_inc5 (pc' := 97) dX1_forced_94 rfl rfl ⟨by first | omega | (simp (decide := true) only [au_1, nu_2, au_lt, nu_lt, aw_e, nw_e, au_s, au_n, nu_s, nu_n, au_au, nu_nu, au_nu]; omega), by first | omega | (simp (decide := true) only [au_1, nu_2, au_lt, nu_lt, aw_e, nw_e, au_s, au_n, nu_s, nu_n, au_au, nu_nu, au_nu]; omega)⟩ ?_
            refine w_goto (tgt := 32) dX1_forced_97 rfl ?_
            -- at 32: .iload 5
            try simp (decide := true) only [au_1, nu_2, au_lt, nu_lt, aw_e, nw_e, au_s, au_n, nu_s, nu_n, au_au, nu_nu, au_nu]
            exact iht _ (nx _ (by rw [eT, hrd]; exact (fi_hit m0' m1' hc' hn').symm))
          · refine w_goto (tgt := 93) dX1_forced_89 rfl ?_
            refine w_aui (pc' := 94) dX1_forced_93 rfl rfl (by first | omega | (simp (decide := true) only [au_1, nu_2, au_lt, nu_lt, aw_e, nw_e, au_s, au_n, nu_s, nu_n, au_au, nu_nu, au_nu]; omega)) (by first | omega | (simp (decide := true) only [au_1, nu_2, au_lt, nu_lt, aw_e, nw_e, au_s, au_n, nu_s, nu_n, au_au, nu_nu, au_nu]; omega)) ?_
            try simp (decide := true) only [au_1, nu_2, au_lt, nu_lt, aw_e, nw_e, au_s, au_n, nu_s, nu_n, au_au, nu_nu, au_nu]
            refine w_inc5 (pc' := 97) dX1_forced_94 rfl rfl ⟨by first | omega | (simp (decide := true) only [au_1, nu_2, au_lt, nu_lt, aw_e, nw_e, au_s, au_n, nu_s, nu_n, au_au, nu_nu, au_nu]; omega), by first | omega | (simp (decide := true) only [au_1, nu_2, au_lt, nu_lt, aw_e, nw_e, au_s, au_n, nu_s, nu_n, au_au, nu_nu, au_nu]; omega)⟩ ?_
            refine w_goto (tgt := 32) dX1_forced_97 rfl ?_
            -- at 32: .iload 5
            try simp (decide := true) only [au_1, nu_2, au_lt, nu_lt, aw_e, nw_e, au_s, au_n, nu_s, nu_n, au_au, nu_nu, au_nu]
            exact iht _ (nx _ (by rw [eT, hrd]; exact (fi_no hn').symm))
theorem c_X1_forced {f : Int} (hK : kok σ) (hF : fok σ) (h1 : 0 ≤ f ∧ f < σ.1 40 → ∀ τ, frS scS σ τ → τ.2 38 = shF σ f (zfl σ f) (fcd σ f).2 → τ.1 41 = σ.1 41 → K (some (xI (fcd σ f).1)) (ov τ G0)) (h0 : ¬ (0 ≤ f ∧ f < σ.1 40) → K (some (xI (-1))) (ov σ G0)) : tvW mX1_forced (d + 8) K 0 [some (xR mR), some (xI f), none, none, none, none, none] [] (ov σ G0) bc bs := by
  have bad : ¬ (0 ≤ f ∧ f < σ.1 40) → tvW mX1_forced (d + 8) K 8 [some (xR mR), some (xI f), none, none, none, none, none] [] (ov σ G0) bc bs := by
    intro q
    refine w_iconst (pc' := 9) dX1_forced_8 rfl (by decide) ?_
    -- at 9: .ireturn
    try simp (decide := true) only [au_1, nu_2, au_lt, nu_lt, aw_e, nw_e, au_s, au_n, nu_s, nu_n, au_au, nu_nu, au_nu]
    refine w_ireturn dX1_forced_9 rfl ?_
    exact h0 q
  refine w_aload_n (pc' := 1) dX1_forced_0 rfl rfl ?_
  refine w_iload_n (pc' := 2) dX1_forced_1 rfl rfl ?_
  refine w_callV1 (pc' := 5) (mc := 0) (ms := 0) dX1_forced_2 rfl tX1_isFloor q1501 rfl rfl qs66 q1499 ov_o rfl (Nat.le_of_ble_eq_true rfl) (Nat.le_of_ble_eq_true rfl) ?_
  refine c_X1_isFloor  (fun g2a g2b => w_p1 ?_) (fun g2 => w_p1 ?_)
  rotate_left
  · refine w_if_ne (pc' := 8) (tgt := 10) dX1_forced_5 rfl rfl (fun h_ => False.elim (by omega)) (fun h_ => ?_)
    exact bad (by omega)
  refine w_if_ne (pc' := 8) (tgt := 10) dX1_forced_5 rfl rfl (fun h_ => ?_) (fun h_ => False.elim (by omega))
  -- at 10: .aload_n 0
  have hf : 0 ≤ f ∧ f < σ.1 40 := ⟨g2a, g2b⟩
  have h1 := h1 hf
  refine w_aload_n (pc' := 11) dX1_forced_10 rfl rfl ?_
  refine w_iload_n (pc' := 12) dX1_forced_11 rfl rfl ?_
  -- at 12: .invokevirtual 351
  try simp (decide := true) only [au_1, nu_2, au_lt, nu_lt, aw_e, nw_e, au_s, au_n, nu_s, nu_n, au_au, nu_nu, au_nu]
  refine w_callV1 (pc' := 15) (mc := 0) (ms := 0) dX1_forced_12 rfl tX1_starts q1517 rfl rfl qs67 q1515 ov_o rfl (Nat.le_of_ble_eq_true rfl) (Nat.le_of_ble_eq_true rfl) ?_
  refine c_X1_starts hK hF.1 hf (fun v b l g N hv hb hl hg => w_p1 ?_)
  obtain ⟨f1, f2, f3, f4⟩ := st_facts hF.1 hf hK hb hl hg
  have hN := hg.1
  refine w_ist2 (pc' := 16) dX1_forced_15 rfl rfl ?_
  refine w_iconst (pc' := 17) dX1_forced_16 rfl (by decide) ?_
  refine w_ist3 (pc' := 18) dX1_forced_17 rfl rfl ?_
  refine w_iconst (pc' := 19) dX1_forced_18 rfl (by decide) ?_
  refine w_ist4 (pc' := 21) dX1_forced_19 rfl rfl ?_
  -- at 21: .iload 4
  try simp (decide := true) only [au_1, nu_2, au_lt, nu_lt, aw_e, nw_e, au_s, au_n, nu_s, nu_n, au_au, nu_nu, au_nu]
  refine w_ms (τ := (nu (nu (nu (au (au (au (au (au σ 38 (zfl σ f)) 44 (b)) 45 (l)) 46 g) 48 ((σ.2 48))) 42 f) 43 N) 52 ((σ.1 52)))) ?_ ?_
  · rw [show au (au (au (au (au σ 38 (zfl σ f)) 44 b) 45 l) 46 g) 48 (σ.2 48) = au (au (au (au σ 38 (zfl σ f)) 44 b) 45 l) 46 g from au_id (σ := au (au (au (au σ 38 (zfl σ f)) 44 b) 45 l) 46 g) (k := 48)]
    exact (nu_id (σ := nu (nu (au (au (au (au σ 38 (zfl σ f)) 44 b) 45 l) 46 g) 42 f) 43 N) (k := 52)).symm
  refine c_X1_forced_r (d := d + 1) hK hF.1 hf hg (fcd σ f) (fun b' l' dt co hZ => ?_) 65 b l _ _ 0 1 _ _ (by omega) (by omega) f1 f2 (by omega) (by unfold fcd; rw [hb, hl])
  exact h1 _ (frS_n (by decide) (frS_n (by decide) (frS_n (by decide) (frS_a (by decide) (frS_a (by decide) (frS_a (by decide) (frS_a (by decide) (frS_a (by decide) frS_r)))))))) rfl rfl
end
