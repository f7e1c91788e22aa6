set_option maxRecDepth 10000
section
variable {d : Nat} {K : Option XV → GH → Prop} {G0 G : GH} {bc bs : Nat} {σ τ : MS} {w : RW}
/-- the rows, one behind the other -/
theorem c_X0_paste_l {p i j N S : Int} (hw : Rx (sKeep σ p) w G) (hR : rok σ) (hP : pok σ) (hG : gok σ) (g0 : σ.1 24 ≠ 0) (hp : 0 ≤ p ∧ p < σ.1 12) (hm : nPst σ p i j (σ.1 24) ≤ 6000 - σ.1 9) (hi : -20 ≤ i ∧ i ≤ 60) (hj : -120 ≤ j ∧ j ≤ 120) {v8 v9 : Option XV}
    (h : ∀ G', tfr G G' → Rel (sPaste σ p i j (σ.1 24).toNat) G' → K (some (xI S)) G') : tvW mX0_paste (d + 7) K 184 [some (xR oR), some (xI p), some (xI i), some (xI j), some (xR (pO p)), some (xI N), some (xI S), some (xI (σ.1 24)), v8, v9] [] G 80 3680 := by
  have hgd := hG.1
  have hI := sPaste_I (i := i) (j := j) hR hP hG hp g0 hm
  refine w_iconst (pc' := 185) dX0_paste_184 rfl (by decide) ?_
  refine w_ist7 (pc' := 187) dX0_paste_185 rfl rfl ?_
  -- at 187: .iload 7
  refine up (T := fun a => 0 ≤ a → ∀ (v8 v9 : Option XV) (G1 : GH) (w1 : RW) (mc ms : Nat), tfr G G1 → Rx (sPaste σ p i j a.toNat) w1 G1 → 4 * (σ.1 24 - a) ≤ mc → 184 * (σ.1 24 - a) ≤ ms → tvW mX0_paste (d + 7) K 187 [some (xR oR), some (xI p), some (xI i), some (xI j), some (xR (pO p)), some (xI N), some (xI S), some (xI a), v8, v9] [] G1 mc ms) (σ.1 24) (by omega) ?_ ?_ (Int.le_refl _) v8 v9 G w 80 3680 (fun _ _ => rfl) hw (by omega) (by omega)
  · intro _ v8 v9 G1 w1 mc ms t1 hw1 hmc hms
    obtain ⟨⟨-, -, -, hgg, -⟩, -, -⟩ := hI (σ.1 24).toNat (by omega)
    obtain ⟨b, u, m, l, H, W, fk, fm, fs, hof, eH, eW, hb, -⟩ := Rx_rgI hw1 hgg g0
    unfold off at hof
    refine w_iload (pc' := 189) dX0_paste_187 rfl rfl ?_
    refine w_aload_n (pc' := 190) dX0_paste_189 rfl rfl ?_
    refine w_get 8 (pc' := 193) dX0_paste_190 rfl fX0_203_0 hof rfl ?_
    -- at 193: .invokevirtual 219
    refine w_callV0 (pc' := 196) (mc := 0) (ms := 0) dX0_paste_193 rfl tX7_rows q581 rfl rfl q582 q604 hb.1 rfl (Nat.le_of_ble_eq_true rfl) (Nat.le_of_ble_eq_true rfl) ?_
    refine c_X7_rows hb ?_
    refine w_p1 ?_
    rw [eH]
    refine w_icmp_ge (pc' := 199) (tgt := 337) dX0_paste_196 rfl rfl (fun h_ => ?_) (fun h_ => False.elim (by first | omega | (simp (decide := true) only [au_1, nu_2, au_lt, nu_lt, aw_e, nw_e, au_s, au_n, nu_s, nu_n, au_au, nu_nu, au_nu] at h_; omega)))
    refine w_iload (pc' := 339) dX0_paste_337 rfl rfl ?_
    -- at 339: .ireturn
    refine w_ireturn dX0_paste_339 rfl ?_
    exact h G1 t1 ⟨_, hw1⟩
  · intro a a0 a1 ih _ v8 v9 G1 w1 mc ms t1 hw1 hmc hms
    obtain ⟨hI1, hmd1, hle1⟩ := hI a.toNat (by omega)
    obtain ⟨-, -, hle2⟩ := hI (a.toNat + 1) (by omega)
    obtain ⟨b, u, m, l, H, W, fk, fm, fs, hof, eH, eW, hb, -⟩ := Rx_rgI hw1 hI1.2.2.2.1 g0
    unfold off at hof
    have hmd2 : 0 < cms σ p i j a → (sPaste σ p i j a.toNat).1 9 < 6000 := by
      intro q
      have : nPst σ p i j ((a.toNat + 1 : Nat) : Int) = nPst σ p i j (a.toNat : Int) + b1 (0 < cms σ p i j a) := by
        unfold nPst
        rw [show ((a.toNat + 1 : Nat) : Int) = (a.toNat : Int) + 1 by omega, sm_s (by omega), show ((a.toNat : Nat) : Int) = a by omega]
      rw [b1_t q] at this
      omega
    obtain ⟨mc', rfl⟩ : ∃ m', mc = m' + 4 := ⟨mc - 4, by omega⟩
    obtain ⟨ms', rfl⟩ : ∃ m', ms = m' + 184 := ⟨ms - 184, by omega⟩
    refine w_iload (pc' := 189) dX0_paste_187 rfl rfl ?_
    refine w_aload_n (pc' := 190) dX0_paste_189 rfl rfl ?_
    refine w_get 8 (pc' := 193) dX0_paste_190 rfl fX0_203_0 hof rfl ?_
    -- at 193: .invokevirtual 219
    refine w_callV0 (pc' := 196) (mc := 0) (ms := 0) dX0_paste_193 rfl tX7_rows q581 rfl rfl q582 q604 hb.1 rfl (Nat.le_of_ble_eq_true rfl) (Nat.le_of_ble_eq_true rfl) ?_
    refine c_X7_rows hb ?_
    refine w_p1 ?_
    rw [eH]
    refine w_icmp_ge (pc' := 199) (tgt := 337) dX0_paste_196 rfl rfl (fun h_ => False.elim (by first | omega | (simp (decide := true) only [au_1, nu_2, au_lt, nu_lt, aw_e, nw_e, au_s, au_n, nu_s, nu_n, au_au, nu_nu, au_nu] at h_; omega))) (fun h_ => ?_)
    refine c_X0_paste_r hw1 hI1 hG g0 hp a0 a1 hmd2 hi hj (fun G2 w2 v8 v9 t2 hw2 => ?_)
    refine w_inc7 (pc' := 334) dX0_paste_331 rfl rfl ⟨by first | omega | (simp (decide := true) only [au_1, nu_2, au_lt, nu_lt, aw_e, nw_e, au_s, au_n, nu_s, nu_n, au_au, nu_nu, au_nu]; omega), by first | omega | (simp (decide := true) only [au_1, nu_2, au_lt, nu_lt, aw_e, nw_e, au_s, au_n, nu_s, nu_n, au_au, nu_nu, au_nu]; omega)⟩ ?_
    refine w_goto (tgt := 187) dX0_paste_334 rfl ?_
    -- at 187: .iload 7
    refine ih (by omega) _ _ G2 w2 mc' ms' (fun q hq => (t2 q hq).trans (t1 q hq)) ?_ (by omega) (by omega)
    rw [show (a + 1).toNat = a.toNat + 1 by omega]
    show Rx (sPRow σ (sPaste σ p i j a.toNat) p i j (a.toNat : Int)) w2 G2
    rw [show ((a.toNat : Nat) : Int) = a by omega]
    exact hw2
theorem c_X0_paste {p i j : Int} (hw : Rx σ w G) (hR : rok σ) (hP : pok σ) (hU : uok σ) (hG : gok σ) (h1 : (0 ≤ p ∧ p < σ.1 12) → σ.1 24 ≠ 0 → nPst σ p i j (σ.1 24) ≠ 0 → nPst σ p i j (σ.1 24) ≤ 6000 - σ.1 9 → ∀ G', tfr G G' → Rel (sPaste σ p i j (σ.1 24).toNat) G' → K (some (xI (sm (fun a => cms σ p i j a) (σ.1 24)))) G') (h2 : (0 ≤ p ∧ p < σ.1 12) → σ.1 24 ≠ 0 → nPst σ p i j (σ.1 24) = 0 → K (some (xI 0)) G) (h3 : (0 ≤ p ∧ p < σ.1 12) → σ.1 24 ≠ 0 → nPst σ p i j (σ.1 24) > 6000 - σ.1 9 → K (some (xI (-1))) G) (h0 : ¬ ((0 ≤ p ∧ p < σ.1 12) ∧ σ.1 24 ≠ 0) → K (some (xI (-1))) G) : tvW mX0_paste (d + 7) K 0 [some (xR oR), some (xI p), some (xI i), some (xI j), none, none, none, none, none, none] [] G 83 3745 := by
  have hof0 := hw.1
  unfold off at hof0
  have bad : ∀ o, ¬ ((0 ≤ p ∧ p < σ.1 12) ∧ σ.1 24 ≠ 0) → tvW mX0_paste (d + 7) K 19 [some (xR oR), some (xI p), some (xI i), some (xI j), some (xO o), none, none, none, none, none] [] G 83 3745 := by
    intro o q
    refine w_iconst (pc' := 20) dX0_paste_19 rfl (by decide) ?_
    -- at 20: .ireturn
    refine w_ireturn dX0_paste_20 rfl ?_
    exact h0 q
  refine w_aload_n (pc' := 1) dX0_paste_0 rfl rfl ?_
  refine w_iload_n (pc' := 2) dX0_paste_1 rfl rfl ?_
  -- at 2: .invokevirtual 150
  refine w_callV1 (pc' := 5) (mc := 0) (ms := 0) dX0_paste_2 rfl tX0_pattern_2 q375 rfl rfl qs4 q373 hof0 rfl (Nat.le_of_ble_eq_true rfl) (Nat.le_of_ble_eq_true rfl) ?_
  refine c_X0_pattern_2 hw (fun p0 p1 => w_p1 ?_) (fun g => w_p1 ?_)
  · by_cases g0 : σ.1 24 = 0
    · have hrg : w.2.2.2.2 = none := by
        rcases hw.2.2.2.2.2.1 with ⟨-, z⟩ | ⟨z, -⟩
        · exact z
        · exact absurd g0 z
      rw [hrg] at hof0
      refine w_ast4 (pc' := 7) dX0_paste_5 rfl rfl ?_
      refine w_aload (pc' := 9) dX0_paste_7 rfl rfl ?_
      -- at 9: .ifnull 10
      refine w_ifnull (pc' := 12) (tgt := 19) dX0_paste_9 rfl rfl (fun h_ => False.elim (nomatch h_)) (fun h_ => ?_)
      refine w_aload_n (pc' := 13) dX0_paste_12 rfl rfl ?_
      refine w_get 8 (pc' := 16) dX0_paste_13 rfl fX0_203_0 hof0 rfl ?_
      -- at 16: .ifnonnull 5
      refine w_ifnonnull (pc' := 19) (tgt := 21) dX0_paste_16 rfl rfl (fun h_ => False.elim (h_ rfl)) (fun h_ => ?_)
      exact bad _ (fun q => q.2 g0)
    · have hp : 0 ≤ p ∧ p < σ.1 12 := ⟨p0, p1⟩
      have h1 := h1 hp g0
      have h2 := h2 hp g0
      have h3 := h3 hp g0
      clear bad h0
      obtain ⟨hg2, hgc⟩ : (1 ≤ σ.1 24 ∧ σ.1 24 ≤ 20) ∧ (1 ≤ σ.1 25 ∧ σ.1 25 ≤ 20) := by have := hG.1; omega
      have hcr : ∀ a, 0 ≤ cms σ p i j a ∧ cms σ p i j a ≤ 20 := fun a => by have := cms_r (σ := σ) (p := p) (i := i) (j := j) (a := a) (by omega); omega
      obtain ⟨b, u, m, l, H, W, fk, fm, fs, hof, eH, eW, hb, hcell⟩ := Rx_rgI hw ⟨rfl, rfl, rfl, rfl⟩ g0
      unfold off at hof
      obtain ⟨hPo, -⟩ := hw.2.2.2.1.2 p p0 p1
      have hpr := Rx_prw hw hR hP p0 p1
      have hM := (hP.2 p p0 p1).1
      have hmd := hR.1
      have nN : ∀ a, 0 ≤ a → nPst σ p i j (a + 1) = nPst σ p i j a + b1 (0 < cms σ p i j a) := fun a a0 => sm_s a0
      have nR : ∀ a, 0 ≤ a → 0 ≤ nPst σ p i j a ∧ nPst σ p i j a ≤ 1 * a := fun a a0 => sm_r (f := fun a => b1 (0 < cms σ p i j a)) 1 a0 (fun _ _ _ => b1_r _)
      have sR : ∀ a, 0 ≤ a → 0 ≤ sm (fun a => cms σ p i j a) a ∧ sm (fun a => cms σ p i j a) a ≤ 20 * a := fun a a0 => sm_r (f := fun a => cms σ p i j a) 20 a0 (fun a _ _ => hcr a)
      have nz := nPst_0 (σ := σ) (p := p) (i := i) (j := j) (n := σ.1 24) (by omega)
      have out : ¬ ((-20 ≤ i ∧ i ≤ 60) ∧ -120 ≤ j ∧ j ≤ 120) → tvW mX0_paste (d + 7) K 45 [some (xR oR), some (xI p), some (xI i), some (xI j), some (xR (pO p)), none, none, none, none, none] [] G 83 3745 := by
        intro q
        refine w_iconst (pc' := 46) dX0_paste_45 rfl (by decide) ?_
        -- at 46: .ireturn
        refine w_ireturn dX0_paste_46 rfl ?_
        refine h2 (sm_zz (fun a a0 a1 => b1_f (fun z => q ?_)))
        obtain ⟨x, x0, x1, hx⟩ := cms_pos (by omega) z
        have hs := hx.2
        rw [hs_iff] at hs
        obtain ⟨⟨i0, i1⟩, j0, j1⟩ := hs
        obtain ⟨-, hL, hO⟩ := hpr.2 (i + a) i0 i1
        simp only [] at hL hO
        omega
      refine w_ast4 (pc' := 7) dX0_paste_5 rfl rfl ?_
      refine w_aload (pc' := 9) dX0_paste_7 rfl rfl ?_
      -- at 9: .ifnull 10
      refine w_ifnull (pc' := 12) (tgt := 19) dX0_paste_9 rfl rfl (fun h_ => False.elim (nomatch h_)) (fun h_ => ?_)
      refine w_aload_n (pc' := 13) dX0_paste_12 rfl rfl ?_
      refine w_get 8 (pc' := 16) dX0_paste_13 rfl fX0_203_0 hof rfl ?_
      -- at 16: .ifnonnull 5
      refine w_ifnonnull (pc' := 19) (tgt := 21) dX0_paste_16 rfl rfl (fun h_ => ?_) (fun h_ => False.elim (nomatch h_))
      refine w_iload_n (pc' := 22) dX0_paste_21 rfl rfl ?_
      refine w_bipush (pc' := 24) dX0_paste_22 rfl (by decide +kernel) (by decide) ?_
      -- at 24: .if_icmp .gt 21
      refine w_icmp_gt (pc' := 27) (tgt := 45) dX0_paste_24 rfl rfl (fun q1 => ?_) (fun q1 => ?_)
      · exact out (by omega)
      · refine w_iload_n (pc' := 28) dX0_paste_27 rfl rfl ?_
        refine w_bipush (pc' := 30) dX0_paste_28 rfl (by decide +kernel) (by decide) ?_
        -- at 30: .if_icmp .lt 15
        refine w_icmp_lt (pc' := 33) (tgt := 45) dX0_paste_30 rfl rfl (fun q2 => ?_) (fun q2 => ?_)
        · exact out (by omega)
        · refine w_iload_n (pc' := 34) dX0_paste_33 rfl rfl ?_
          refine w_bipush (pc' := 36) dX0_paste_34 rfl (by decide +kernel) (by decide) ?_
          -- at 36: .if_icmp .gt 9
          refine w_icmp_gt (pc' := 39) (tgt := 45) dX0_paste_36 rfl rfl (fun q3 => ?_) (fun q3 => ?_)
          · exact out (by omega)
          · refine w_iload_n (pc' := 40) dX0_paste_39 rfl rfl ?_
            refine w_bipush (pc' := 42) dX0_paste_40 rfl (by decide +kernel) (by decide) ?_
            -- at 42: .if_icmp .ge 5
            refine w_icmp_ge (pc' := 45) (tgt := 47) dX0_paste_42 rfl rfl (fun q4 => ?_) (fun q4 => ?_)
            · clear out
              have hi : -20 ≤ i ∧ i ≤ 60 := by omega
              have hj : -120 ≤ j ∧ j ≤ 120 := by omega
              clear q1 q2 q3 q4
              refine w_iconst (pc' := 48) dX0_paste_47 rfl (by decide) ?_
              refine w_ist5 (pc' := 50) dX0_paste_48 rfl rfl ?_
              refine w_iconst (pc' := 51) dX0_paste_50 rfl (by decide) ?_
              refine w_ist6 (pc' := 53) dX0_paste_51 rfl rfl ?_
              refine w_iconst (pc' := 54) dX0_paste_53 rfl (by decide) ?_
              refine w_ist7 (pc' := 56) dX0_paste_54 rfl rfl ?_
              -- at 56: .iload 7
              refine up (T := fun a => 0 ≤ a → ∀ v8 v9 : Option XV, tvW mX0_paste (d + 7) K 56 [some (xR oR), some (xI p), some (xI i), some (xI j), some (xR (pO p)), some (xI (nPst σ p i j a)), some (xI (sm (fun a => cms σ p i j a) a)), some (xI a), v8, v9] [] G 83 3745) (a := 0) (σ.1 24) (by omega) ?_ ?_ (Int.le_refl _) none none
              · intro _ v8 v9
                have hn := nR (σ.1 24) (by omega)
                have hsr := sR (σ.1 24) (by omega)
                refine w_iload (pc' := 58) dX0_paste_56 rfl rfl ?_
                refine w_aload_n (pc' := 59) dX0_paste_58 rfl rfl ?_
                refine w_get 8 (pc' := 62) dX0_paste_59 rfl fX0_203_0 hof rfl ?_
                -- at 62: .invokevirtual 219
                refine w_callV0 (pc' := 65) (mc := 0) (ms := 0) dX0_paste_62 rfl tX7_rows q581 rfl rfl q582 q604 hb.1 rfl (Nat.le_of_ble_eq_true rfl) (Nat.le_of_ble_eq_true rfl) ?_
                refine c_X7_rows hb ?_
                refine w_p1 ?_
                rw [eH]
                refine w_icmp_ge (pc' := 68) (tgt := 160) dX0_paste_65 rfl rfl (fun h_ => ?_) (fun h_ => False.elim (by first | omega | (simp (decide := true) only [au_1, nu_2, au_lt, nu_lt, aw_e, nw_e, au_s, au_n, nu_s, nu_n, au_au, nu_nu, au_nu] at h_; omega)))
                refine w_aload_n (pc' := 161) dX0_paste_160 rfl rfl ?_
                refine w_iload (pc' := 163) dX0_paste_161 rfl rfl ?_
                -- at 163: .invokevirtual 154
                refine w_callV1 (pc' := 166) (mc := 0) (ms := 0) dX0_paste_163 rfl tX0_canMake q379 rfl rfl qs5 q377 hof rfl (Nat.le_of_ble_eq_true rfl) (Nat.le_of_ble_eq_true rfl) ?_
                refine c_X0_canMake hw hR (fun c => w_p1 ?_) (fun c => w_p1 ?_)
                · refine w_if_ne (pc' := 169) (tgt := 171) dX0_paste_166 rfl rfl (fun h_ => ?_) (fun h_ => False.elim (by first | omega | (simp (decide := true) only [au_1, nu_2, au_lt, nu_lt, aw_e, nw_e, au_s, au_n, nu_s, nu_n, au_au, nu_nu, au_nu] at h_; omega)))
                  refine w_iload (pc' := 173) dX0_paste_171 rfl rfl ?_
                  -- at 173: .ifCond .ne 5
                  refine w_if_ne (pc' := 176) (tgt := 178) dX0_paste_173 rfl rfl (fun z => ?_) (fun z => ?_)
                  · refine w_aload_n (pc' := 179) dX0_paste_178 rfl rfl ?_
                    refine w_aload (pc' := 181) dX0_paste_179 rfl rfl ?_
                    -- at 181: .invokevirtual 157
                    refine w_callV1 (pc' := 184) (mc := 3) (ms := 65) dX0_paste_181 rfl tX0_keep q383 rfl rfl qs6 q381 hof rfl (Nat.le_of_ble_eq_true rfl) (Nat.le_of_ble_eq_true rfl) ?_
                    refine c_X0_keep hw hR hP hU p0 p1 (fun G1 t1 r1 => w_p0 ?_)
                    obtain ⟨w1, r1⟩ := r1
                    exact c_X0_paste_l r1 hR hP hG g0 hp c hi hj (fun G2 t2 r2 => h1 (fun y => z (nz.mp y)) c G2 (fun q hq => (t2 q hq).trans (t1 q hq)) r2)
                  · refine w_iconst (pc' := 177) dX0_paste_176 rfl (by decide) ?_
                    -- at 177: .ireturn
                    refine w_ireturn dX0_paste_177 rfl ?_
                    exact h2 (nz.mpr z)
                · refine w_if_ne (pc' := 169) (tgt := 171) dX0_paste_166 rfl rfl (fun h_ => False.elim (by first | omega | (simp (decide := true) only [au_1, nu_2, au_lt, nu_lt, aw_e, nw_e, au_s, au_n, nu_s, nu_n, au_au, nu_nu, au_nu] at h_; omega))) (fun h_ => ?_)
                  refine w_iconst (pc' := 170) dX0_paste_169 rfl (by decide) ?_
                  -- at 170: .ireturn
                  refine w_ireturn dX0_paste_170 rfl ?_
                  exact h3 (by omega)
              · intro a a0 a1 ih _ v8 v9
                rw [nN a a0, sm_s a0] at ih
                have hn := nR a a0
                have hsr := sR a a0
                have hca := hcr a
                generalize nPst σ p i j a = N at *
                generalize sm (fun a => cms σ p i j a) a = S at *
                have hb0 := hb
                obtain ⟨n1, n2, n3, n4, n5⟩ := hb
                obtain ⟨⟨ga, ga1, ga2⟩, -, -⟩ := n5 a a0 (by omega)
                refine w_iload (pc' := 58) dX0_paste_56 rfl rfl ?_
                refine w_aload_n (pc' := 59) dX0_paste_58 rfl rfl ?_
                refine w_get 8 (pc' := 62) dX0_paste_59 rfl fX0_203_0 hof rfl ?_
                -- at 62: .invokevirtual 219
                refine w_callV0 (pc' := 65) (mc := 0) (ms := 0) dX0_paste_62 rfl tX7_rows q581 rfl rfl q582 q604 n1 rfl (Nat.le_of_ble_eq_true rfl) (Nat.le_of_ble_eq_true rfl) ?_
                refine c_X7_rows hb0 ?_
                refine w_p1 ?_
                rw [eH]
                refine w_icmp_ge (pc' := 68) (tgt := 160) dX0_paste_65 rfl rfl (fun h_ => False.elim (by first | omega | (simp (decide := true) only [au_1, nu_2, au_lt, nu_lt, aw_e, nw_e, au_s, au_n, nu_s, nu_n, au_au, nu_nu, au_nu] at h_; omega))) (fun h_ => ?_)
                refine w_iload (pc' := 70) dX0_paste_68 rfl rfl ?_
                refine w_ist8 (pc' := 72) dX0_paste_70 rfl rfl ?_
                refine w_iconst (pc' := 73) dX0_paste_72 rfl (by decide) ?_
                refine w_ist9 (pc' := 75) dX0_paste_73 rfl rfl ?_
                -- at 75: .iload 9
                refine w_L (L' := [some (xR oR), some (xI p), some (xI i), some (xI j), some (xR (pO p)), some (xI N), some (xI (S + sm (fun b => b1 (cmQ σ p i j a b)) 0)), some (xI a), some (xI S), some (xI 0)]) (by rw [sm_0, Int.add_zero]) ?_
                refine up (T := fun x => 0 ≤ x → tvW mX0_paste (d + 7) K 75 [some (xR oR), some (xI p), some (xI i), some (xI j), some (xR (pO p)), some (xI N), some (xI (S + sm (fun b => b1 (cmQ σ p i j a b)) x)), some (xI a), some (xI S), some (xI x)] [] G 83 3745) (a := 0) (σ.1 25) (by omega) ?_ ?_ (Int.le_refl _)
                · intro _
                  have ih := ih (by omega)
                  refine w_iload (pc' := 77) dX0_paste_75 rfl rfl ?_
                  refine w_aload_n (pc' := 78) dX0_paste_77 rfl rfl ?_
                  refine w_get 8 (pc' := 81) dX0_paste_78 rfl fX0_203_0 hof rfl ?_
                  -- at 81: .invokevirtual 221
                  refine w_callV0 (pc' := 84) (mc := 0) (ms := 0) dX0_paste_81 rfl tX7_columns q585 rfl rfl q586 q605 n1 rfl (Nat.le_of_ble_eq_true rfl) (Nat.le_of_ble_eq_true rfl) ?_
                  refine c_X7_columns hb0 (by omega) ?_
                  refine w_p1 ?_
                  rw [eW]
                  refine w_icmp_ge (pc' := 87) (tgt := 137) dX0_paste_84 rfl rfl (fun h_ => ?_) (fun h_ => False.elim (by first | omega | (simp (decide := true) only [au_1, nu_2, au_lt, nu_lt, aw_e, nw_e, au_s, au_n, nu_s, nu_n, au_au, nu_nu, au_nu] at h_; omega)))
                  rw [show sm (fun b => b1 (cmQ σ p i j a b)) (σ.1 25) = cms σ p i j a from rfl]
                  generalize cms σ p i j a = C at *
                  refine w_iload (pc' := 139) dX0_paste_137 rfl rfl ?_
                  refine w_iload (pc' := 141) dX0_paste_139 rfl rfl ?_
                  refine w_iload (pc' := 143) dX0_paste_141 rfl rfl ?_
                  -- at 143: .if_icmp .le 7
                  refine w_icmp_le (pc' := 146) (tgt := 150) dX0_paste_143 rfl rfl (fun z => ?_) (fun z => ?_)
                  · rw [b1_f (by omega)] at ih
                    refine w_iconst (pc' := 151) dX0_paste_150 rfl (by decide) ?_
                    refine w_iadd (pc' := 152) dX0_paste_151 rfl ⟨by first | omega | (simp (decide := true) only [au_1, nu_2, au_lt, nu_lt, aw_e, nw_e, au_s, au_n, nu_s, nu_n, au_au, nu_nu, au_nu]; omega), by first | omega | (simp (decide := true) only [au_1, nu_2, au_lt, nu_lt, aw_e, nw_e, au_s, au_n, nu_s, nu_n, au_au, nu_nu, au_nu]; omega)⟩ ?_
                    refine w_ist5 (pc' := 154) dX0_paste_152 rfl rfl ?_
                    refine w_inc7 (pc' := 157) dX0_paste_154 rfl rfl ⟨by first | omega | (simp (decide := true) only [au_1, nu_2, au_lt, nu_lt, aw_e, nw_e, au_s, au_n, nu_s, nu_n, au_au, nu_nu, au_nu]; omega), by first | omega | (simp (decide := true) only [au_1, nu_2, au_lt, nu_lt, aw_e, nw_e, au_s, au_n, nu_s, nu_n, au_au, nu_nu, au_nu]; omega)⟩ ?_
                    refine w_goto (tgt := 56) dX0_paste_157 rfl ?_
                    -- at 56: .iload 7
                    exact ih _ _
                  · rw [b1_t (by omega)] at ih
                    refine w_iconst (pc' := 147) dX0_paste_146 rfl (by decide) ?_
                    refine w_goto (tgt := 151) dX0_paste_147 rfl ?_
                    refine w_iadd (pc' := 152) dX0_paste_151 rfl ⟨by first | omega | (simp (decide := true) only [au_1, nu_2, au_lt, nu_lt, aw_e, nw_e, au_s, au_n, nu_s, nu_n, au_au, nu_nu, au_nu]; omega), by first | omega | (simp (decide := true) only [au_1, nu_2, au_lt, nu_lt, aw_e, nw_e, au_s, au_n, nu_s, nu_n, au_au, nu_nu, au_nu]; omega)⟩ ?_
                    refine w_ist5 (pc' := 154) dX0_paste_152 rfl rfl ?_
                    refine w_inc7 (pc' := 157) dX0_paste_154 rfl rfl ⟨by first | omega | (simp (decide := true) only [au_1, nu_2, au_lt, nu_lt, aw_e, nw_e, au_s, au_n, nu_s, nu_n, au_au, nu_nu, au_nu]; omega), by first | omega | (simp (decide := true) only [au_1, nu_2, au_lt, nu_lt, aw_e, nw_e, au_s, au_n, nu_s, nu_n, au_au, nu_nu, au_nu]; omega)⟩ ?_
                    refine w_goto (tgt := 56) dX0_paste_157 rfl ?_
                    -- at 56: .iload 7
                    exact ih _ _
                · intro x x0 x1 ihx _
                  rw [sm_s x0] at ihx
                  have hk := sm_r (f := fun b => b1 (cmQ σ p i j a b)) 1 x0 (fun _ _ _ => b1_r _)
                  generalize sm (fun b => b1 (cmQ σ p i j a b)) x = X at *
                  have hci := (gIx hG a0 a1 x0 x1).2.2.2
                  obtain ⟨c1, -, -⟩ := hcell a x a0 a1 x0 x1
                  have y1 := ga2 x x0 (by omega)
                  rw [c1] at y1
                  have no : ¬ cmQ σ p i j a x → tvW mX0_paste (d + 7) K 127 [some (xR oR), some (xI p), some (xI i), some (xI j), some (xR (pO p)), some (xI N), some (xI (S + X)), some (xI a), some (xI S), some (xI x)] [xI (S + X)] G 83 3745 := by
                    intro z
                    rw [b1_f z] at ihx
                    refine w_iconst (pc' := 128) dX0_paste_127 rfl (by decide) ?_
                    refine w_iadd (pc' := 129) dX0_paste_128 rfl ⟨by first | omega | (simp (decide := true) only [au_1, nu_2, au_lt, nu_lt, aw_e, nw_e, au_s, au_n, nu_s, nu_n, au_au, nu_nu, au_nu]; omega), by first | omega | (simp (decide := true) only [au_1, nu_2, au_lt, nu_lt, aw_e, nw_e, au_s, au_n, nu_s, nu_n, au_au, nu_nu, au_nu]; omega)⟩ ?_
                    refine w_ist6 (pc' := 131) dX0_paste_129 rfl rfl ?_
                    refine w_inc9 (pc' := 134) dX0_paste_131 rfl rfl ⟨by first | omega | (simp (decide := true) only [au_1, nu_2, au_lt, nu_lt, aw_e, nw_e, au_s, au_n, nu_s, nu_n, au_au, nu_nu, au_nu]; omega), by first | omega | (simp (decide := true) only [au_1, nu_2, au_lt, nu_lt, aw_e, nw_e, au_s, au_n, nu_s, nu_n, au_au, nu_nu, au_nu]; omega)⟩ ?_
                    refine w_goto (tgt := 75) dX0_paste_134 rfl ?_
                    -- at 75: .iload 9
                    rw [Int.add_assoc]
                    exact ihx (by omega)
                  refine w_iload (pc' := 77) dX0_paste_75 rfl rfl ?_
                  refine w_aload_n (pc' := 78) dX0_paste_77 rfl rfl ?_
                  refine w_get 8 (pc' := 81) dX0_paste_78 rfl fX0_203_0 hof rfl ?_
                  -- at 81: .invokevirtual 221
                  refine w_callV0 (pc' := 84) (mc := 0) (ms := 0) dX0_paste_81 rfl tX7_columns q585 rfl rfl q586 q605 n1 rfl (Nat.le_of_ble_eq_true rfl) (Nat.le_of_ble_eq_true rfl) ?_
                  refine c_X7_columns hb0 (by omega) ?_
                  refine w_p1 ?_
                  rw [eW]
                  refine w_icmp_ge (pc' := 87) (tgt := 137) dX0_paste_84 rfl rfl (fun h_ => False.elim (by first | omega | (simp (decide := true) only [au_1, nu_2, au_lt, nu_lt, aw_e, nw_e, au_s, au_n, nu_s, nu_n, au_au, nu_nu, au_nu] at h_; omega))) (fun h_ => ?_)
                  refine w_iload (pc' := 89) dX0_paste_87 rfl rfl ?_
                  refine w_aload_n (pc' := 90) dX0_paste_89 rfl rfl ?_
                  refine w_get 8 (pc' := 93) dX0_paste_90 rfl fX0_203_0 hof rfl ?_
                  refine w_get 0 (pc' := 96) dX0_paste_93 rfl fX0_207_6 n1 rfl ?_
                  refine w_iload (pc' := 98) dX0_paste_96 rfl rfl ?_
                  refine w_aaldM (pc' := 99) dX0_paste_98 rfl n2 a0 (by omega) ?_
                  refine w_iload (pc' := 101) dX0_paste_99 rfl rfl ?_
                  refine w_bald (pc' := 102) dX0_paste_101 rfl ga1 x0 (by omega) ?_
                  -- at 102: .bipush (-2)
                  rw [y1]
                  refine w_bipush (pc' := 104) dX0_paste_102 rfl (by decide +kernel) (by decide) ?_
                  -- at 104: .if_icmp .eq 23
                  by_cases gi : σ.2 22 (a * σ.1 25 + x) = 0
                  · rw [if_pos gi]
                    refine w_icmp_eq (pc' := 107) (tgt := 127) dX0_paste_104 rfl rfl (fun h_ => ?_) (fun h_ => False.elim (by first | omega | (simp (decide := true) only [au_1, nu_2, au_lt, nu_lt, aw_e, nw_e, au_s, au_n, nu_s, nu_n, au_au, nu_nu, au_nu] at h_; omega)))
                    exact no (fun z => z.1 gi)
                  · rw [if_neg gi]
                    have hcd : cdat (σ.2 20 (a * σ.1 25 + x)) 0 ≠ -2 := by
                      by_cases z : σ.2 20 (a * σ.1 25 + x) = 0
                      · rw [(cd_0 z).1]
                        omega
                      · have := isC_k hci z
                        rw [(cd_n z).1]
                        omega
                    refine w_icmp_eq (pc' := 107) (tgt := 127) dX0_paste_104 rfl rfl (fun h_ => False.elim (by first | omega | (simp (decide := true) only [au_1, nu_2, au_lt, nu_lt, aw_e, nw_e, au_s, au_n, nu_s, nu_n, au_au, nu_nu, au_nu] at h_; omega))) (fun h_ => ?_)
                    refine w_aload (pc' := 109) dX0_paste_107 rfl rfl ?_
                    refine w_iload_n (pc' := 110) dX0_paste_109 rfl rfl ?_
                    refine w_iload (pc' := 112) dX0_paste_110 rfl rfl ?_
                    refine w_iadd (pc' := 113) dX0_paste_112 rfl ⟨by first | omega | (simp (decide := true) only [au_1, nu_2, au_lt, nu_lt, aw_e, nw_e, au_s, au_n, nu_s, nu_n, au_au, nu_nu, au_nu]; omega), by first | omega | (simp (decide := true) only [au_1, nu_2, au_lt, nu_lt, aw_e, nw_e, au_s, au_n, nu_s, nu_n, au_au, nu_nu, au_nu]; omega)⟩ ?_
                    refine w_iload_n (pc' := 114) dX0_paste_113 rfl rfl ?_
                    refine w_iload (pc' := 116) dX0_paste_114 rfl rfl ?_
                    refine w_iadd (pc' := 117) dX0_paste_116 rfl ⟨by first | omega | (simp (decide := true) only [au_1, nu_2, au_lt, nu_lt, aw_e, nw_e, au_s, au_n, nu_s, nu_n, au_au, nu_nu, au_nu]; omega), by first | omega | (simp (decide := true) only [au_1, nu_2, au_lt, nu_lt, aw_e, nw_e, au_s, au_n, nu_s, nu_n, au_au, nu_nu, au_nu]; omega)⟩ ?_
                    -- at 117: .invokevirtual 173
                    refine w_callV2 (pc' := 120) (mc := 0) (ms := 0) dX0_paste_117 rfl tX4_at q489 rfl rfl q490 q488 hPo rfl (Nat.le_of_ble_eq_true rfl) (Nat.le_of_ble_eq_true rfl) ?_
                    refine c_X4_at hPo hpr (fun i0 j0 j1 => w_p1 ?_) (fun g => w_p1 ?_)
                    · have hs : hs_ σ p (i + a) (j + x) := hs_iff.mpr ⟨i0, j0, j1⟩
                      rw [b1_t (show cmQ σ p i j a x from ⟨gi, hs⟩)] at ihx
                      refine w_ifnull (pc' := 123) (tgt := 127) dX0_paste_120 rfl rfl (fun h_ => False.elim (nomatch h_)) (fun h_ => ?_)
                      refine w_iconst (pc' := 124) dX0_paste_123 rfl (by decide) ?_
                      refine w_goto (tgt := 128) dX0_paste_124 rfl ?_
                      refine w_iadd (pc' := 129) dX0_paste_128 rfl ⟨by first | omega | (simp (decide := true) only [au_1, nu_2, au_lt, nu_lt, aw_e, nw_e, au_s, au_n, nu_s, nu_n, au_au, nu_nu, au_nu]; omega), by first | omega | (simp (decide := true) only [au_1, nu_2, au_lt, nu_lt, aw_e, nw_e, au_s, au_n, nu_s, nu_n, au_au, nu_nu, au_nu]; omega)⟩ ?_
                      refine w_ist6 (pc' := 131) dX0_paste_129 rfl rfl ?_
                      refine w_inc9 (pc' := 134) dX0_paste_131 rfl rfl ⟨by first | omega | (simp (decide := true) only [au_1, nu_2, au_lt, nu_lt, aw_e, nw_e, au_s, au_n, nu_s, nu_n, au_au, nu_nu, au_nu]; omega), by first | omega | (simp (decide := true) only [au_1, nu_2, au_lt, nu_lt, aw_e, nw_e, au_s, au_n, nu_s, nu_n, au_au, nu_nu, au_nu]; omega)⟩ ?_
                      refine w_goto (tgt := 75) dX0_paste_134 rfl ?_
                      -- at 75: .iload 9
                      rw [Int.add_assoc]
                      exact ihx (by omega)
                    · refine w_ifnull (pc' := 123) (tgt := 127) dX0_paste_120 rfl rfl (fun h_ => ?_) (fun h_ => False.elim (h_ rfl))
                      exact no (fun z => g (hs_iff.mp z.2))
            · exact out (by omega)
  · refine w_ast4 (pc' := 7) dX0_paste_5 rfl rfl ?_
    refine w_aload (pc' := 9) dX0_paste_7 rfl rfl ?_
    -- at 9: .ifnull 10
    refine w_ifnull (pc' := 12) (tgt := 19) dX0_paste_9 rfl rfl (fun h_ => ?_) (fun h_ => False.elim (h_ rfl))
    exact bad _ (fun q => g q.1)
end
