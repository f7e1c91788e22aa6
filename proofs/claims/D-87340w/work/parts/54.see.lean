set_option maxRecDepth 10000
section
variable {d : Nat} {K : Option XV → GH → Prop} {G0 G : GH} {bc bs : Nat} {σ : MS} {w : RW}
theorem row_at {G : GH} {q len off j : Int} {C : Int → Int} (h : row G q len off C) (j0 : 0 ≤ j) (j1 : j < len) : ∃ (n : Nat) (fk fm fs : Int → Int), (n : Int) = len ∧ G (rK q) = some (xar 1 n fk) ∧ G (rM q) = some (xar 1 n fm) ∧ G (rS q) = some (xar 2 n fs) ∧ fk j = cdat (C j) 0 ∧ fm j = cdat (C j) 1 ∧ fs j = cdat (C j) 2 := by
  obtain ⟨-, n, fk, fm, fs, h1, h2, h3, h4, h5⟩ := h
  exact ⟨n, fk, fm, fs, h1, h2, h3, h4, h5 j j0 j1⟩
theorem hs_iff {σ : MS} {p i j : Int} : hs_ σ p i j ↔ (0 ≤ i ∧ i < σ.2 11 p) ∧ σ.2 7 (rw_ σ p i) ≤ j ∧ j < σ.2 7 (rw_ σ p i) + σ.2 6 (rw_ σ p i) := by
  unfold hs_
  constructor
  · rintro ⟨a, b, c, d⟩; exact ⟨⟨a, b⟩, c, d⟩
  · rintro ⟨⟨a, b⟩, c, d⟩; exact ⟨a, b, c, d⟩
theorem cdat_2 {c w : Int} (h0 : w ≠ 0) (h1 : w ≠ 1) : cdat c w = cdat c 2 := by
  unfold cdat
  rw [if_neg h0, if_neg (by decide : (2 : Int) ≠ 0), if_neg h1, if_neg (by decide : (2 : Int) ≠ 1)]
theorem c_X0_at {p i j x : Int} (hw : Rx σ w G) (hR : rok σ) (hP : pok σ) (h : K (some (xI (aAt σ p i j x))) G) : tvW mX0_at (d + 5) K 0 [some (xR oR), some (xI p), some (xI i), some (xI j), some (xI x), none, none, none] [] G bc bs := by
  have hof := hw.1
  unfold off at hof
  unfold aAt at h
  have bad : ∀ o : Option Rl, ¬ ((0 ≤ p ∧ p < σ.1 12) ∧ 0 ≤ x ∧ x ≤ 2) → tvW mX0_at (d + 5) K 23 [some (xR oR), some (xI p), some (xI i), some (xI j), some (xI x), some (xO o), none, none] [] G bc bs := by
    intro o g
    rw [ic_f g] at h
    refine w_iconst (pc' := 24) dX0_at_23 rfl (by decide) ?_
    -- at 24: .ireturn
    refine w_ireturn dX0_at_24 rfl ?_
    exact h
  refine w_aload_n (pc' := 1) dX0_at_0 rfl rfl ?_
  refine w_iload_n (pc' := 2) dX0_at_1 rfl rfl ?_
  -- at 2: .invokevirtual 150
  refine w_callV1 (pc' := 5) (mc := 0) (ms := 0) dX0_at_2 rfl tX0_pattern_2 q375 rfl rfl qs4 q373 hof rfl (Nat.le_of_ble_eq_true rfl) (Nat.le_of_ble_eq_true rfl) ?_
  refine c_X0_pattern_2 hw (fun p0 p1 => w_p1 ?_) (fun g => w_p1 ?_)
  · refine w_ast5 (pc' := 7) dX0_at_5 rfl rfl ?_
    refine w_aload (pc' := 9) dX0_at_7 rfl rfl ?_
    -- at 9: .ifnull 14
    refine w_ifnull (pc' := 12) (tgt := 23) dX0_at_9 rfl rfl (fun h_ => False.elim (nomatch h_)) (fun h_ => ?_)
    refine w_iload (pc' := 14) dX0_at_12 rfl rfl ?_
    -- at 14: .ifCond .lt 9
    refine w_if_lt (pc' := 17) (tgt := 23) dX0_at_14 rfl rfl (fun g1 => ?_) (fun g1 => ?_)
    · exact bad _ (by omega)
    · refine w_iload (pc' := 19) dX0_at_17 rfl rfl ?_
      refine w_iconst (pc' := 20) dX0_at_19 rfl (by decide) ?_
      -- at 20: .if_icmp .le 5
      refine w_icmp_le (pc' := 23) (tgt := 25) dX0_at_20 rfl rfl (fun g2 => ?_) (fun g2 => ?_)
      · rw [ic_t ⟨⟨p0, p1⟩, by omega, by omega⟩] at h
        obtain ⟨hPo, -⟩ := hw.2.2.2.1.2 p p0 p1
        have hpr := Rx_prw hw hR hP p0 p1
        refine w_aload (pc' := 27) dX0_at_25 rfl rfl ?_
        refine w_iload_n (pc' := 28) dX0_at_27 rfl rfl ?_
        refine w_iload_n (pc' := 29) dX0_at_28 rfl rfl ?_
        -- at 29: .invokevirtual 173
        refine w_callV2 (pc' := 32) (mc := 0) (ms := 0) dX0_at_29 rfl tX4_at q489 rfl rfl q490 q488 hPo rfl (Nat.le_of_ble_eq_true rfl) (Nat.le_of_ble_eq_true rfl) ?_
        refine c_X4_at hPo hpr (fun i0 j0 j1 => w_p1 ?_) (fun g => w_p1 ?_)
        · rw [ic_t (hs_iff.mpr ⟨i0, j0, j1⟩)] at h
          obtain ⟨hr, hL, hO⟩ := hpr.2 i i0.1 i0.2
          have j0 : σ.2 7 (rw_ σ p i) ≤ j := j0
          have j1 : j < σ.2 7 (rw_ σ p i) + σ.2 6 (rw_ σ p i) := j1
          obtain ⟨n, fk, fm, fs, hn, ak, am, as, ck, cm, cs⟩ := row_at hr (j := j - σ.2 7 (rw_ σ p i)) (by omega) (by simp only []; omega)
          have e0 : ca_ σ p i j = σ.2 8 (60 * rw_ σ p i + (j - σ.2 7 (rw_ σ p i))) := by unfold ca_; rw [Int.add_sub_assoc]
          have hro := hr.1
          simp only [] at hro hL hO ck cm cs hn
          rw [e0] at h
          refine w_ast6 (pc' := 34) dX0_at_32 rfl rfl ?_
          refine w_aload (pc' := 36) dX0_at_34 rfl rfl ?_
          -- at 36: .ifnonnull 15
          refine w_ifnonnull (pc' := 39) (tgt := 51) dX0_at_36 rfl rfl (fun h_ => ?_) (fun h_ => False.elim (nomatch h_))
          refine w_iload_n (pc' := 52) dX0_at_51 rfl rfl ?_
          refine w_aload (pc' := 54) dX0_at_52 rfl rfl ?_
          refine w_get 3 (pc' := 57) dX0_at_54 rfl fX0_181_5 hro rfl ?_
          refine w_isub (pc' := 58) dX0_at_57 rfl ⟨by first | omega | (simp (decide := true) only [au_1, nu_2, au_lt, nu_lt, aw_e, nw_e, au_s, au_n, nu_s, nu_n, au_au, nu_nu, au_nu]; omega), by first | omega | (simp (decide := true) only [au_1, nu_2, au_lt, nu_lt, aw_e, nw_e, au_s, au_n, nu_s, nu_n, au_au, nu_nu, au_nu]; omega)⟩ ?_
          refine w_ist7 (pc' := 60) dX0_at_58 rfl rfl ?_
          refine w_iload (pc' := 62) dX0_at_60 rfl rfl ?_
          -- at 62: .ifCond .ne 14
          refine w_if_ne (pc' := 65) (tgt := 76) dX0_at_62 rfl rfl (fun g3 => ?_) (fun g3 => ?_)
          · refine w_iload (pc' := 78) dX0_at_76 rfl rfl ?_
            refine w_iconst (pc' := 79) dX0_at_78 rfl (by decide) ?_
            -- at 79: .if_icmp .ne 14
            refine w_icmp_ne (pc' := 82) (tgt := 93) dX0_at_79 rfl rfl (fun g4 => ?_) (fun g4 => ?_)
            · refine w_aload (pc' := 95) dX0_at_93 rfl rfl ?_
              refine w_get 2 (pc' := 98) dX0_at_95 rfl fX0_190_5 hro rfl ?_
              refine w_iload (pc' := 100) dX0_at_98 rfl rfl ?_
              refine w_sald (pc' := 101) dX0_at_100 rfl as (by omega) (by omega) ?_
              -- at 101: .ireturn
              refine w_ireturn dX0_at_101 rfl ?_
              rw [cs]
              rw [cdat_2 g3 g4] at h
              exact h
            · refine w_aload (pc' := 84) dX0_at_82 rfl rfl ?_
              refine w_get 1 (pc' := 87) dX0_at_84 rfl fX0_194_5 hro rfl ?_
              refine w_iload (pc' := 89) dX0_at_87 rfl rfl ?_
              refine w_bald (pc' := 90) dX0_at_89 rfl am (by omega) (by omega) ?_
              refine w_goto (tgt := 101) dX0_at_90 rfl ?_
              -- at 101: .ireturn
              refine w_ireturn dX0_at_101 rfl ?_
              rw [cm]
              rw [g4] at h
              exact h
          · refine w_aload (pc' := 67) dX0_at_65 rfl rfl ?_
            refine w_get 0 (pc' := 70) dX0_at_67 rfl fX0_187_5 hro rfl ?_
            refine w_iload (pc' := 72) dX0_at_70 rfl rfl ?_
            refine w_bald (pc' := 73) dX0_at_72 rfl ak (by omega) (by omega) ?_
            refine w_goto (tgt := 101) dX0_at_73 rfl ?_
            -- at 101: .ireturn
            refine w_ireturn dX0_at_101 rfl ?_
            rw [ck]
            rw [g3] at h
            exact h
        · rw [ic_f (fun q => g (hs_iff.mp q))] at h
          refine w_ast6 (pc' := 34) dX0_at_32 rfl rfl ?_
          refine w_aload (pc' := 36) dX0_at_34 rfl rfl ?_
          -- at 36: .ifnonnull 15
          refine w_ifnonnull (pc' := 39) (tgt := 51) dX0_at_36 rfl rfl (fun h_ => False.elim (h_ rfl)) (fun h_ => ?_)
          refine w_iload (pc' := 41) dX0_at_39 rfl rfl ?_
          -- at 41: .ifCond .ne 8
          refine w_if_ne (pc' := 44) (tgt := 49) dX0_at_41 rfl rfl (fun g3 => ?_) (fun g3 => ?_)
          · rw [if_neg g3] at h
            refine w_iconst (pc' := 50) dX0_at_49 rfl (by decide) ?_
            -- at 50: .ireturn
            refine w_ireturn dX0_at_50 rfl ?_
            exact h
          · rw [if_pos g3] at h
            refine w_bipush (pc' := 46) dX0_at_44 rfl (by decide +kernel) (by decide) ?_
            refine w_goto (tgt := 50) dX0_at_46 rfl ?_
            -- at 50: .ireturn
            refine w_ireturn dX0_at_50 rfl ?_
            exact h
      · exact bad _ (by omega)
  · refine w_ast5 (pc' := 7) dX0_at_5 rfl rfl ?_
    refine w_aload (pc' := 9) dX0_at_7 rfl rfl ?_
    -- at 9: .ifnull 14
    refine w_ifnull (pc' := 12) (tgt := 23) dX0_at_9 rfl rfl (fun h_ => ?_) (fun h_ => False.elim (h_ rfl))
    exact bad _ (fun q => g q.1)
theorem c_X0_row {p i x : Int} (hw : Rx σ w G) (hR : rok σ) (hP : pok σ) (h : K (some (xI (aRow σ p i x))) G) : tvW mX0_row (d + 5) K 0 [some (xR oR), some (xI p), some (xI i), some (xI x), none, none, none, none, none] [] G bc bs := by
  have hof := hw.1
  unfold off at hof
  unfold aRow at h
  obtain ⟨⟨p1', p2'⟩, hP'⟩ := hP
  have hP : pok σ := ⟨⟨p1', p2'⟩, hP'⟩
  have no : ∀ (o : Option Rl) (hno : ¬ ((0 ≤ p ∧ p < σ.1 12) ∧ 0 ≤ i ∧ i < σ.2 11 p)), tvW mX0_row (d + 5) K 22 [some (xR oR), some (xI p), some (xI i), some (xI x), some (xO o), none, none, none, none] [xN] G bc bs := by
    intro o g
    rw [ic_f (fun q => g ⟨q.1, q.2.1⟩)] at h
    refine w_ast5 (pc' := 24) dX0_row_22 rfl rfl ?_
    refine w_aload (pc' := 26) dX0_row_24 rfl rfl ?_
    -- at 26: .ifnonnull 5
    refine w_ifnonnull (pc' := 29) (tgt := 31) dX0_row_26 rfl rfl (fun h_ => False.elim (h_ rfl)) (fun h_ => ?_)
    refine w_iconst (pc' := 30) dX0_row_29 rfl (by decide) ?_
    -- at 30: .ireturn
    refine w_ireturn dX0_row_30 rfl ?_
    exact h
  refine w_aload_n (pc' := 1) dX0_row_0 rfl rfl ?_
  refine w_iload_n (pc' := 2) dX0_row_1 rfl rfl ?_
  -- at 2: .invokevirtual 150
  refine w_callV1 (pc' := 5) (mc := 0) (ms := 0) dX0_row_2 rfl tX0_pattern_2 q375 rfl rfl qs4 q373 hof rfl (Nat.le_of_ble_eq_true rfl) (Nat.le_of_ble_eq_true rfl) ?_
  refine c_X0_pattern_2 hw (fun p0 p1 => w_p1 ?_) (fun g => w_p1 ?_)
  · obtain ⟨hPo, -⟩ := hw.2.2.2.1.2 p p0 p1
    have hpr := Rx_prw hw hR hP p0 p1
    refine w_ast4 (pc' := 7) dX0_row_5 rfl rfl ?_
    refine w_aload (pc' := 9) dX0_row_7 rfl rfl ?_
    -- at 9: .ifnonnull 7
    refine w_ifnonnull (pc' := 12) (tgt := 16) dX0_row_9 rfl rfl (fun h_ => ?_) (fun h_ => False.elim (nomatch h_))
    refine w_aload (pc' := 18) dX0_row_16 rfl rfl ?_
    refine w_iload_n (pc' := 19) dX0_row_18 rfl rfl ?_
    -- at 19: .invokevirtual 166
    refine w_callV1 (pc' := 22) (mc := 0) (ms := 0) dX0_row_19 rfl tX4_row q466 rfl rfl q467 q465 hPo rfl (Nat.le_of_ble_eq_true rfl) (Nat.le_of_ble_eq_true rfl) ?_
    refine c_X4_row hPo hpr (fun i0 i1 => w_p1 ?_) (fun g => w_p1 (no _ (fun q => g q.2)))
    obtain ⟨hr, hL, hO⟩ := hpr.2 i i0 i1
    obtain ⟨hro, n, fk, fm, fs, hn, ak, -⟩ := hr
    simp only [] at hro hn hL hO
    refine w_ast5 (pc' := 24) dX0_row_22 rfl rfl ?_
    refine w_aload (pc' := 26) dX0_row_24 rfl rfl ?_
    -- at 26: .ifnonnull 5
    refine w_ifnonnull (pc' := 29) (tgt := 31) dX0_row_26 rfl rfl (fun h_ => ?_) (fun h_ => False.elim (nomatch h_))
    refine w_iload_n (pc' := 32) dX0_row_31 rfl rfl ?_
    -- at 32: .tableswitch 135 0 2 #[28, 35, 41]
    by_cases x0 : x = 0
    · refine w_tableIn (tgt := 60) 0 dX0_row_32 x0 (by decide) (by decide) rfl rfl ?_
      rw [ic_t ⟨⟨p0, p1⟩, ⟨i0, i1⟩, by omega, by omega⟩, if_pos x0] at h
      refine w_aload (pc' := 62) dX0_row_60 rfl rfl ?_
      refine w_get 0 (pc' := 65) dX0_row_62 rfl fX0_187_5 hro rfl ?_
      refine w_alen (pc' := 66) dX0_row_65 rfl ak ?_
      -- at 66: .ireturn
      refine w_ireturn dX0_row_66 rfl ?_
      rw [hn]
      exact h
    by_cases x1 : x = 1
    · refine w_tableIn (tgt := 67) 1 dX0_row_32 x1 (by decide) (by decide) rfl rfl ?_
      rw [ic_t ⟨⟨p0, p1⟩, ⟨i0, i1⟩, by omega, by omega⟩, if_neg x0, if_pos x1] at h
      refine w_aload (pc' := 69) dX0_row_67 rfl rfl ?_
      refine w_get 3 (pc' := 72) dX0_row_69 rfl fX0_181_5 hro rfl ?_
      -- at 72: .ireturn
      refine w_ireturn dX0_row_72 rfl ?_
      exact h
    by_cases x2 : x = 2
    · refine w_tableIn (tgt := 73) 2 dX0_row_32 x2 (by decide) (by decide) rfl rfl ?_
      rw [ic_t ⟨⟨p0, p1⟩, ⟨i0, i1⟩, by omega, by omega⟩, if_neg x0, if_neg x1] at h
      unfold nRow at h
      generalize hrr : rw_ σ p i = r at *
      obtain ⟨lf, hlO⟩ := lst_o hw.2.2.2.1.1
      refine w_iconst (pc' := 74) dX0_row_73 rfl (by decide) ?_
      refine w_ist6 (pc' := 76) dX0_row_74 rfl rfl ?_
      refine w_iconst (pc' := 77) dX0_row_76 rfl (by decide) ?_
      refine w_ist7 (pc' := 79) dX0_row_77 rfl rfl ?_
      -- at 79: .iload 7
      have hb : ∀ q, 0 ≤ q → q < σ.1 12 → 0 ≤ sm (fun k => b1 (rw_ σ q k = r)) (σ.2 11 q) ∧ sm (fun k => b1 (rw_ σ q k = r)) (σ.2 11 q) ≤ 60 := by
        intro q q0 q1
        have hq := (hP' q q0 q1).1
        have := sm_r (f := fun k => b1 (rw_ σ q k = r)) 1 hq.1 (fun _ _ _ => b1_r _)
        omega
      refine up (T := fun q => ∀ y : Option XV, 0 ≤ sm (fun q => sm (fun k => b1 (rw_ σ q k = r)) (σ.2 11 q)) q → sm (fun q => sm (fun k => b1 (rw_ σ q k = r)) (σ.2 11 q)) q ≤ 60 * q → tvW mX0_row (d + 5) K 79 [some (xR oR), some (xI p), some (xI i), some (xI x), some (xR (pO p)), some (xR (rO r)), some (xI (sm (fun q => sm (fun k => b1 (rw_ σ q k = r)) (σ.2 11 q)) q)), some (xI q), y] [] G bc bs) (σ.1 12) p1' (fun y _ _ => ?_) (fun q q0 q1 ih y b0 b1' => ?_) none (Int.le_refl _) (Int.le_refl _)
      · refine w_iload (pc' := 81) dX0_row_79 rfl rfl ?_
        refine w_aload_n (pc' := 82) dX0_row_81 rfl rfl ?_
        refine w_get 1 (pc' := 85) dX0_row_82 rfl fX0_16_0 hof rfl ?_
        -- at 85: .invokevirtual 54
        refine w_callV0 (pc' := 88) (mc := 0) (ms := 0) dX0_row_85 rfl tJ2_size q207 rfl rfl q208 q206 hlO rfl (Nat.le_of_ble_eq_true rfl) (Nat.le_of_ble_eq_true rfl) ?_
        refine c_J2_size hw.2.2.2.1.1 ?_
        refine w_p1 ?_
        refine w_icmp_ge (pc' := 91) (tgt := 164) dX0_row_88 rfl rfl (fun h_ => ?_) (fun h_ => False.elim (by first | omega | (simp (decide := true) only [au_1, nu_2, au_lt, nu_lt, aw_e, nw_e, au_s, au_n, nu_s, nu_n, au_au, nu_nu, au_nu] at h_; omega)))
        refine w_iload (pc' := 166) dX0_row_164 rfl rfl ?_
        -- at 166: .ireturn
        refine w_ireturn dX0_row_166 rfl ?_
        exact h
      · rw [sm_s q0] at ih
        have hq := hb q q0 q1
        have hM3 := (hP' q q0 q1).1
        obtain ⟨hQo, hQl⟩ := hw.2.2.2.1.2 q q0 q1
        obtain ⟨lf2, hlQ⟩ := lst_o hQl
        generalize sm (fun q => sm (fun k => b1 (rw_ σ q k = r)) (σ.2 11 q)) q = A at *
        refine w_iload (pc' := 81) dX0_row_79 rfl rfl ?_
        refine w_aload_n (pc' := 82) dX0_row_81 rfl rfl ?_
        refine w_get 1 (pc' := 85) dX0_row_82 rfl fX0_16_0 hof rfl ?_
        -- at 85: .invokevirtual 54
        refine w_callV0 (pc' := 88) (mc := 0) (ms := 0) dX0_row_85 rfl tJ2_size q207 rfl rfl q208 q206 hlO rfl (Nat.le_of_ble_eq_true rfl) (Nat.le_of_ble_eq_true rfl) ?_
        refine c_J2_size hw.2.2.2.1.1 ?_
        refine w_p1 ?_
        refine w_icmp_ge (pc' := 91) (tgt := 164) dX0_row_88 rfl rfl (fun h_ => False.elim (by first | omega | (simp (decide := true) only [au_1, nu_2, au_lt, nu_lt, aw_e, nw_e, au_s, au_n, nu_s, nu_n, au_au, nu_nu, au_nu] at h_; omega))) (fun h_ => ?_)
        refine w_iconst (pc' := 92) dX0_row_91 rfl (by decide) ?_
        refine w_ist8 (pc' := 94) dX0_row_92 rfl rfl ?_
        -- at 94: .iload 8
        refine w_L (L' := [some (xR oR), some (xI p), some (xI i), some (xI x), some (xR (pO p)), some (xR (rO r)), some (xI (A + sm (fun k => b1 (rw_ σ q k = r)) 0)), some (xI q), some (xI 0)]) (by rw [sm_0, Int.add_zero]) ?_
        refine up (T := fun k => tvW mX0_row (d + 5) K 94 [some (xR oR), some (xI p), some (xI i), some (xI x), some (xR (pO p)), some (xR (rO r)), some (xI (A + sm (fun k => b1 (rw_ σ q k = r)) k)), some (xI q), some (xI k)] [] G bc bs) (σ.2 11 q) hM3.1 ?_ (fun k k0 k1 ih2 => ?_)
        · refine w_iload (pc' := 96) dX0_row_94 rfl rfl ?_
          refine w_aload_n (pc' := 97) dX0_row_96 rfl rfl ?_
          refine w_get 1 (pc' := 100) dX0_row_97 rfl fX0_16_0 hof rfl ?_
          refine w_iload (pc' := 102) dX0_row_100 rfl rfl ?_
          -- at 102: .invokevirtual 58
          refine w_callV1 (pc' := 105) (mc := 0) (ms := 0) dX0_row_102 rfl tJ2_get q211 rfl rfl q212 q210 hlO rfl (Nat.le_of_ble_eq_true rfl) (Nat.le_of_ble_eq_true rfl) ?_
          refine c_J2_get hw.2.2.2.1.1 ⟨q0, q1⟩ ?_
          refine w_p1 ?_
          refine w_cast (pc' := 108) dX0_row_105 rfl hQo rfl q355 ?_
          refine w_get 0 (pc' := 111) dX0_row_108 rfl fX0_140_3 hQo rfl ?_
          -- at 111: .invokevirtual 54
          refine w_callV0 (pc' := 114) (mc := 0) (ms := 0) dX0_row_111 rfl tJ2_size q207 rfl rfl q208 q206 hlQ rfl (Nat.le_of_ble_eq_true rfl) (Nat.le_of_ble_eq_true rfl) ?_
          refine c_J2_size hQl ?_
          refine w_p1 ?_
          refine w_icmp_ge (pc' := 117) (tgt := 158) dX0_row_114 rfl rfl (fun h_ => ?_) (fun h_ => False.elim (by first | omega | (simp (decide := true) only [au_1, nu_2, au_lt, nu_lt, aw_e, nw_e, au_s, au_n, nu_s, nu_n, au_au, nu_nu, au_nu] at h_; omega)))
          refine w_inc7 (pc' := 161) dX0_row_158 rfl rfl ⟨by first | omega | (simp (decide := true) only [au_1, nu_2, au_lt, nu_lt, aw_e, nw_e, au_s, au_n, nu_s, nu_n, au_au, nu_nu, au_nu]; omega), by first | omega | (simp (decide := true) only [au_1, nu_2, au_lt, nu_lt, aw_e, nw_e, au_s, au_n, nu_s, nu_n, au_au, nu_nu, au_nu]; omega)⟩ ?_
          refine w_goto (tgt := 79) dX0_row_161 rfl ?_
          -- at 79: .iload 7
          exact ih _ (by omega) (by omega)
        · have hk := sm_r (f := fun k => b1 (rw_ σ q k = r)) 1 k0 (fun _ _ _ => b1_r _)
          rw [sm_s k0] at ih2
          refine w_iload (pc' := 96) dX0_row_94 rfl rfl ?_
          refine w_aload_n (pc' := 97) dX0_row_96 rfl rfl ?_
          refine w_get 1 (pc' := 100) dX0_row_97 rfl fX0_16_0 hof rfl ?_
          refine w_iload (pc' := 102) dX0_row_100 rfl rfl ?_
          -- at 102: .invokevirtual 58
          refine w_callV1 (pc' := 105) (mc := 0) (ms := 0) dX0_row_102 rfl tJ2_get q211 rfl rfl q212 q210 hlO rfl (Nat.le_of_ble_eq_true rfl) (Nat.le_of_ble_eq_true rfl) ?_
          refine c_J2_get hw.2.2.2.1.1 ⟨q0, q1⟩ ?_
          refine w_p1 ?_
          refine w_cast (pc' := 108) dX0_row_105 rfl hQo rfl q355 ?_
          refine w_get 0 (pc' := 111) dX0_row_108 rfl fX0_140_3 hQo rfl ?_
          -- at 111: .invokevirtual 54
          refine w_callV0 (pc' := 114) (mc := 0) (ms := 0) dX0_row_111 rfl tJ2_size q207 rfl rfl q208 q206 hlQ rfl (Nat.le_of_ble_eq_true rfl) (Nat.le_of_ble_eq_true rfl) ?_
          refine c_J2_size hQl ?_
          refine w_p1 ?_
          refine w_icmp_ge (pc' := 117) (tgt := 158) dX0_row_114 rfl rfl (fun h_ => False.elim (by first | omega | (simp (decide := true) only [au_1, nu_2, au_lt, nu_lt, aw_e, nw_e, au_s, au_n, nu_s, nu_n, au_au, nu_nu, au_nu] at h_; omega))) (fun h_ => ?_)
          refine w_iload (pc' := 119) dX0_row_117 rfl rfl ?_
          refine w_aload_n (pc' := 120) dX0_row_119 rfl rfl ?_
          refine w_get 1 (pc' := 123) dX0_row_120 rfl fX0_16_0 hof rfl ?_
          refine w_iload (pc' := 125) dX0_row_123 rfl rfl ?_
          -- at 125: .invokevirtual 58
          refine w_callV1 (pc' := 128) (mc := 0) (ms := 0) dX0_row_125 rfl tJ2_get q211 rfl rfl q212 q210 hlO rfl (Nat.le_of_ble_eq_true rfl) (Nat.le_of_ble_eq_true rfl) ?_
          refine c_J2_get hw.2.2.2.1.1 ⟨q0, q1⟩ ?_
          refine w_p1 ?_
          refine w_cast (pc' := 131) dX0_row_128 rfl hQo rfl q355 ?_
          refine w_get 0 (pc' := 134) dX0_row_131 rfl fX0_140_3 hQo rfl ?_
          refine w_iload (pc' := 136) dX0_row_134 rfl rfl ?_
          -- at 136: .invokevirtual 58
          refine w_callV1 (pc' := 139) (mc := 0) (ms := 0) dX0_row_136 rfl tJ2_get q211 rfl rfl q212 q210 hlQ rfl (Nat.le_of_ble_eq_true rfl) (Nat.le_of_ble_eq_true rfl) ?_
          refine c_J2_get hQl ⟨k0, k1⟩ ?_
          refine w_p1 ?_
          refine w_aload (pc' := 141) dX0_row_139 rfl rfl ?_
          -- at 141: .if_acmp .ne 7
          refine w_acmp_ne (pc' := 144) (tgt := 148) dX0_row_141 rfl rfl (by simp) (by simp) (fun g3 => ?_) (fun g3 => ?_)
          · rw [b1_f (fun z => g3 (by rw [z]))] at ih2
            refine w_iconst (pc' := 149) dX0_row_148 rfl (by decide) ?_
            refine w_iadd (pc' := 150) dX0_row_149 rfl ⟨by first | omega | (simp (decide := true) only [au_1, nu_2, au_lt, nu_lt, aw_e, nw_e, au_s, au_n, nu_s, nu_n, au_au, nu_nu, au_nu]; omega), by first | omega | (simp (decide := true) only [au_1, nu_2, au_lt, nu_lt, aw_e, nw_e, au_s, au_n, nu_s, nu_n, au_au, nu_nu, au_nu]; omega)⟩ ?_
            refine w_ist6 (pc' := 152) dX0_row_150 rfl rfl ?_
            refine w_inc8 (pc' := 155) dX0_row_152 rfl rfl ⟨by first | omega | (simp (decide := true) only [au_1, nu_2, au_lt, nu_lt, aw_e, nw_e, au_s, au_n, nu_s, nu_n, au_au, nu_nu, au_nu]; omega), by first | omega | (simp (decide := true) only [au_1, nu_2, au_lt, nu_lt, aw_e, nw_e, au_s, au_n, nu_s, nu_n, au_au, nu_nu, au_nu]; omega)⟩ ?_
            refine w_goto (tgt := 94) dX0_row_155 rfl ?_
            -- at 94: .iload 8
            rw [Int.add_assoc]
            exact ih2
          · have g4 : rw_ σ q k = r := by
              have := Option.some.inj g3
              simp only [Prod.mk.injEq] at this
              omega
            rw [b1_t g4] at ih2
            refine w_iconst (pc' := 145) dX0_row_144 rfl (by decide) ?_
            refine w_goto (tgt := 149) dX0_row_145 rfl ?_
            refine w_iadd (pc' := 150) dX0_row_149 rfl ⟨by first | omega | (simp (decide := true) only [au_1, nu_2, au_lt, nu_lt, aw_e, nw_e, au_s, au_n, nu_s, nu_n, au_au, nu_nu, au_nu]; omega), by first | omega | (simp (decide := true) only [au_1, nu_2, au_lt, nu_lt, aw_e, nw_e, au_s, au_n, nu_s, nu_n, au_au, nu_nu, au_nu]; omega)⟩ ?_
            refine w_ist6 (pc' := 152) dX0_row_150 rfl rfl ?_
            refine w_inc8 (pc' := 155) dX0_row_152 rfl rfl ⟨by first | omega | (simp (decide := true) only [au_1, nu_2, au_lt, nu_lt, aw_e, nw_e, au_s, au_n, nu_s, nu_n, au_au, nu_nu, au_nu]; omega), by first | omega | (simp (decide := true) only [au_1, nu_2, au_lt, nu_lt, aw_e, nw_e, au_s, au_n, nu_s, nu_n, au_au, nu_nu, au_nu]; omega)⟩ ?_
            refine w_goto (tgt := 94) dX0_row_155 rfl ?_
            -- at 94: .iload 8
            rw [Int.add_assoc]
            exact ih2
    · rw [ic_f (by omega)] at h
      refine w_tableOut (tgt := 167) dX0_row_32 rfl (by omega) ?_
      refine w_iconst (pc' := 168) dX0_row_167 rfl (by decide) ?_
      -- at 168: .ireturn
      refine w_ireturn dX0_row_168 rfl ?_
      exact h
  · refine w_ast4 (pc' := 7) dX0_row_5 rfl rfl ?_
    refine w_aload (pc' := 9) dX0_row_7 rfl rfl ?_
    -- at 9: .ifnonnull 7
    refine w_ifnonnull (pc' := 12) (tgt := 16) dX0_row_9 rfl rfl (fun h_ => False.elim (h_ rfl)) (fun h_ => ?_)
    refine w_null (pc' := 13) dX0_row_12 rfl ?_
    refine w_goto (tgt := 22) dX0_row_13 rfl ?_
    -- at 22: .astore 5
    exact no _ (fun q => g q.1)
theorem c_X0_shares {p i q k : Int} (hw : Rx σ w G) (hR : rok σ) (hP : pok σ) (h1 : shr_ σ p i q k → K (some (xI 1)) G) (h0 : ¬ shr_ σ p i q k → K (some (xI 0)) G) : tvW mX0_shares (d + 5) K 0 [some (xR oR), some (xI p), some (xI i), some (xI q), some (xI k), none, none, none] [] G bc bs := by
  have hof := hw.1
  unfold off at hof
  have no : ∀ (a b c : Option Rl), ¬ shr_ σ p i q k → tvW mX0_shares (d + 5) K 57 [some (xR oR), some (xI p), some (xI i), some (xI q), some (xI k), some (xO a), some (xO b), some (xO c)] [] G bc bs := by
    intro a b c g
    refine w_iconst (pc' := 58) dX0_shares_57 rfl (by decide) ?_
    -- at 58: .ireturn
    refine w_zreturn dX0_shares_58 rfl (by first | exact Or.inl rfl | exact Or.inr rfl | omega) ?_
    exact h0 g
  -- with a, b found: the row
  have mid : ∀ (a b : Option Rl), ((0 ≤ p ∧ p < σ.1 12) ∧ a = some (pO p) ∨ ¬ (0 ≤ p ∧ p < σ.1 12) ∧ a = none) → ((0 ≤ q ∧ q < σ.1 12) ∧ b = some (pO q) ∨ ¬ (0 ≤ q ∧ q < σ.1 12) ∧ b = none) → tvW mX0_shares (d + 5) K 14 [some (xR oR), some (xI p), some (xI i), some (xI q), some (xI k), some (xO a), some (xO b), none] [] G bc bs := by
    intro a b ha hb
    rcases ha with ⟨⟨p0, p1⟩, rfl⟩ | ⟨g, rfl⟩
    · obtain ⟨hPo, -⟩ := hw.2.2.2.1.2 p p0 p1
      have hpr := Rx_prw hw hR hP p0 p1
      refine w_aload (pc' := 16) dX0_shares_14 rfl rfl ?_
      -- at 16: .ifnonnull 7
      refine w_ifnonnull (pc' := 19) (tgt := 23) dX0_shares_16 rfl rfl (fun h_ => ?_) (fun h_ => False.elim (nomatch h_))
      refine w_aload (pc' := 25) dX0_shares_23 rfl rfl ?_
      refine w_iload_n (pc' := 26) dX0_shares_25 rfl rfl ?_
      -- at 26: .invokevirtual 166
      refine w_callV1 (pc' := 29) (mc := 0) (ms := 0) dX0_shares_26 rfl tX4_row q466 rfl rfl q467 q465 hPo rfl (Nat.le_of_ble_eq_true rfl) (Nat.le_of_ble_eq_true rfl) ?_
      refine c_X4_row hPo hpr (fun i0 i1 => w_p1 ?_) (fun g => w_p1 ?_)
      · refine w_ast7 (pc' := 31) dX0_shares_29 rfl rfl ?_
        refine w_aload (pc' := 33) dX0_shares_31 rfl rfl ?_
        -- at 33: .ifnull 24
        refine w_ifnull (pc' := 36) (tgt := 57) dX0_shares_33 rfl rfl (fun h_ => False.elim (nomatch h_)) (fun h_ => ?_)
        rcases hb with ⟨⟨q0, q1⟩, rfl⟩ | ⟨g, rfl⟩
        · obtain ⟨hQo, -⟩ := hw.2.2.2.1.2 q q0 q1
          have hqr := Rx_prw hw hR hP q0 q1
          refine w_aload (pc' := 38) dX0_shares_36 rfl rfl ?_
          -- at 38: .ifnull 19
          refine w_ifnull (pc' := 41) (tgt := 57) dX0_shares_38 rfl rfl (fun h_ => False.elim (nomatch h_)) (fun h_ => ?_)
          refine w_aload (pc' := 43) dX0_shares_41 rfl rfl ?_
          refine w_iload (pc' := 45) dX0_shares_43 rfl rfl ?_
          -- at 45: .invokevirtual 166
          refine w_callV1 (pc' := 48) (mc := 0) (ms := 0) dX0_shares_45 rfl tX4_row q466 rfl rfl q467 q465 hQo rfl (Nat.le_of_ble_eq_true rfl) (Nat.le_of_ble_eq_true rfl) ?_
          refine c_X4_row hQo hqr (fun k0 k1 => w_p1 ?_) (fun g => w_p1 ?_)
          · refine w_aload (pc' := 50) dX0_shares_48 rfl rfl ?_
            -- at 50: .if_acmp .ne 7
            refine w_acmp_ne (pc' := 53) (tgt := 57) dX0_shares_50 rfl rfl (by simp) (by simp) (fun g3 => ?_) (fun g3 => ?_)
            · refine no _ _ _ (fun z => g3 ?_)
              rw [z.2.2.2.2]
            · refine w_iconst (pc' := 54) dX0_shares_53 rfl (by decide) ?_
              refine w_goto (tgt := 58) dX0_shares_54 rfl ?_
              -- at 58: .ireturn
              refine w_zreturn dX0_shares_58 rfl (by first | exact Or.inl rfl | exact Or.inr rfl | omega) ?_
              refine h1 ⟨⟨p0, p1⟩, ⟨q0, q1⟩, ⟨i0, i1⟩, ⟨k0, k1⟩, ?_⟩
              have := Option.some.inj g3
              simp only [Prod.mk.injEq] at this
              omega
          · refine w_aload (pc' := 50) dX0_shares_48 rfl rfl ?_
            -- at 50: .if_acmp .ne 7
            refine w_acmp_ne (pc' := 53) (tgt := 57) dX0_shares_50 rfl rfl (by simp) (by simp) (fun h_ => ?_) (fun h_ => False.elim (nomatch h_))
            exact no _ _ _ (fun z => g z.2.2.2.1)
        · refine w_aload (pc' := 38) dX0_shares_36 rfl rfl ?_
          -- at 38: .ifnull 19
          refine w_ifnull (pc' := 41) (tgt := 57) dX0_shares_38 rfl rfl (fun h_ => ?_) (fun h_ => False.elim (h_ rfl))
          exact no _ _ _ (fun z => g z.2.1)
      · refine w_ast7 (pc' := 31) dX0_shares_29 rfl rfl ?_
        refine w_aload (pc' := 33) dX0_shares_31 rfl rfl ?_
        -- at 33: .ifnull 24
        refine w_ifnull (pc' := 36) (tgt := 57) dX0_shares_33 rfl rfl (fun h_ => ?_) (fun h_ => False.elim (h_ rfl))
        exact no _ _ _ (fun z => g z.2.2.1)
    · refine w_aload (pc' := 16) dX0_shares_14 rfl rfl ?_
      -- at 16: .ifnonnull 7
      refine w_ifnonnull (pc' := 19) (tgt := 23) dX0_shares_16 rfl rfl (fun h_ => False.elim (h_ rfl)) (fun h_ => ?_)
      refine w_null (pc' := 20) dX0_shares_19 rfl ?_
      refine w_goto (tgt := 29) dX0_shares_20 rfl ?_
      refine w_ast7 (pc' := 31) dX0_shares_29 rfl rfl ?_
      refine w_aload (pc' := 33) dX0_shares_31 rfl rfl ?_
      -- at 33: .ifnull 24
      refine w_ifnull (pc' := 36) (tgt := 57) dX0_shares_33 rfl rfl (fun h_ => ?_) (fun h_ => False.elim (h_ rfl))
      exact no _ _ _ (fun z => g z.1)
  refine w_aload_n (pc' := 1) dX0_shares_0 rfl rfl ?_
  refine w_iload_n (pc' := 2) dX0_shares_1 rfl rfl ?_
  -- at 2: .invokevirtual 150
  refine w_callV1 (pc' := 5) (mc := 0) (ms := 0) dX0_shares_2 rfl tX0_pattern_2 q375 rfl rfl qs4 q373 hof rfl (Nat.le_of_ble_eq_true rfl) (Nat.le_of_ble_eq_true rfl) ?_
  refine c_X0_pattern_2 hw (fun p0 p1 => w_p1 ?_) (fun g => w_p1 ?_)
  · refine w_ast5 (pc' := 7) dX0_shares_5 rfl rfl ?_
    refine w_aload_n (pc' := 8) dX0_shares_7 rfl rfl ?_
    refine w_iload_n (pc' := 9) dX0_shares_8 rfl rfl ?_
    -- at 9: .invokevirtual 150
    refine w_callV1 (pc' := 12) (mc := 0) (ms := 0) dX0_shares_9 rfl tX0_pattern_2 q375 rfl rfl qs4 q373 hof rfl (Nat.le_of_ble_eq_true rfl) (Nat.le_of_ble_eq_true rfl) ?_
    refine c_X0_pattern_2 hw (fun q0 q1 => w_p1 ?_) (fun g => w_p1 ?_)
    · refine w_ast6 (pc' := 14) dX0_shares_12 rfl rfl ?_
      -- at 14: .aload 5
      exact mid _ _ (Or.inl ⟨⟨p0, p1⟩, rfl⟩) (Or.inl ⟨⟨q0, q1⟩, rfl⟩)
    · refine w_ast6 (pc' := 14) dX0_shares_12 rfl rfl ?_
      -- at 14: .aload 5
      exact mid _ _ (Or.inl ⟨⟨p0, p1⟩, rfl⟩) (Or.inr ⟨g, rfl⟩)
  · refine w_ast5 (pc' := 7) dX0_shares_5 rfl rfl ?_
    refine w_aload_n (pc' := 8) dX0_shares_7 rfl rfl ?_
    refine w_iload_n (pc' := 9) dX0_shares_8 rfl rfl ?_
    -- at 9: .invokevirtual 150
    refine w_callV1 (pc' := 12) (mc := 0) (ms := 0) dX0_shares_9 rfl tX0_pattern_2 q375 rfl rfl qs4 q373 hof rfl (Nat.le_of_ble_eq_true rfl) (Nat.le_of_ble_eq_true rfl) ?_
    refine c_X0_pattern_2 hw (fun q0 q1 => w_p1 ?_) (fun g2 => w_p1 ?_)
    · refine w_ast6 (pc' := 14) dX0_shares_12 rfl rfl ?_
      -- at 14: .aload 5
      exact mid _ _ (Or.inr ⟨g, rfl⟩) (Or.inl ⟨⟨q0, q1⟩, rfl⟩)
    · refine w_ast6 (pc' := 14) dX0_shares_12 rfl rfl ?_
      -- at 14: .aload 5
      exact mid _ _ (Or.inr ⟨g, rfl⟩) (Or.inr ⟨g2, rfl⟩)
end
