set_option maxRecDepth 10000
theorem cd_mv {σ : MS} {c m : Int} (hk : kok σ) (hc : isC (σ.1 5) c) (n : c ≠ 0) (hm : 0 ≤ m ∧ m < 8) : cdat (mvd σ c m) 0 = kOf c ∧ cdat (mvd σ c m) 1 = lie (σ.2 3 (kOf c)) (σ.2 1 (kOf c)) (thn (mOf c) m) ∧ cdat (mvd σ c m) 2 = sOf c ∧ isC (σ.1 5) (mvd σ c m) := by
  have r := isC_k hc n
  have hmo := mOf_r (c := c)
  have hth := thn_r hmo.1 hmo.2 hm.1 hm.2
  have hl := lie_r (mir := σ.2 3 (kOf c)) (hk.2 _ r.1 r.2).2.1 hth.1 hth.2
  have hk1 := hk.1
  unfold mvd
  rw [if_neg n]
  generalize lie (σ.2 3 (kOf c)) (σ.2 1 (kOf c)) (thn (mOf c) m) = l at *
  generalize kOf c = k at *
  generalize sOf c = s at *
  have x : cel k l s % 65536 = 8 * k + l + 1 := by unfold cel; omega
  have nz : cel k l s ≠ 0 := fun z => by rw [z] at x; omega
  obtain ⟨e1, e2, e3⟩ := cd_n nz
  rw [e1, e2, e3]
  refine ⟨?_, ?_, ?_, Or.inr ?_⟩
  · unfold kOf; omega
  · unfold mOf; omega
  · unfold sOf cel; omega
  · omega
theorem cd_mv0 {σ : MS} {m : Int} : mvd σ 0 m = 0 := if_pos rfl
section
variable {d : Nat} {K : Option XV → GH → Prop} {G0 G : GH} {bc bs : Nat} {σ : MS} {w : RW}
theorem c_X0_high {p m : Int} (hw : Rx σ w G) (hR : rok σ) (hP : pok σ) (hp : 0 ≤ p ∧ p < σ.1 12) (hn : 0 < σ.2 11 p) (h : K (some (xI (mvR m (σ.2 11 p) (wd σ p)))) G) : tvW mX0_high (d + 4) K 0 [some (xR (pO p)), some (xI m)] [] G bc bs := by
  obtain ⟨hPo, -⟩ := hw.2.2.2.1.2 p hp.1 hp.2
  have hpr := Rx_prw hw hR hP hp.1 hp.2
  obtain ⟨lf, hl⟩ := lst_o hpr.1
  have e1 := bAnd_1 m
  unfold mvR at h
  refine w_iload_n (pc' := 1) dX0_high_0 rfl rfl ?_
  refine w_iconst (pc' := 2) dX0_high_1 rfl (by decide) ?_
  refine w_iand (pc' := 3) dX0_high_2 rfl ?_
  -- at 3: .iconst 1
  rw [e1]
  refine w_iconst (pc' := 4) dX0_high_3 rfl (by decide) ?_
  -- at 4: .if_icmp .ne 10
  refine w_icmp_ne (pc' := 7) (tgt := 14) dX0_high_4 rfl rfl (fun g => ?_) (fun g => ?_)
  · rw [if_pos (by omega)] at h
    refine w_aload_n (pc' := 15) dX0_high_14 rfl rfl ?_
    refine w_get 0 (pc' := 18) dX0_high_15 rfl fX0_140_3 hPo rfl ?_
    -- at 18: .invokevirtual 54
    refine w_callV0 (pc' := 21) (mc := 0) (ms := 0) dX0_high_18 rfl tJ2_size q207 rfl rfl q208 q206 hl rfl (Nat.le_of_ble_eq_true rfl) (Nat.le_of_ble_eq_true rfl) ?_
    refine c_J2_size hpr.1 ?_
    refine w_p1 ?_
    refine w_ireturn dX0_high_21 rfl ?_
    exact h
  · rw [if_neg (by omega)] at h
    refine w_aload_n (pc' := 8) dX0_high_7 rfl rfl ?_
    -- at 8: .invokevirtual 311
    refine w_callV0 (pc' := 11) (mc := 0) (ms := 0) dX0_high_8 rfl tX4_columns q839 rfl rfl q840 q838 hPo rfl (Nat.le_of_ble_eq_true rfl) (Nat.le_of_ble_eq_true rfl) ?_
    refine c_X4_columns hPo hpr hn ?_
    refine w_p1 ?_
    refine w_goto (tgt := 21) dX0_high_11 rfl ?_
    -- at 21: .ireturn
    refine w_ireturn dX0_high_21 rfl ?_
    exact h
theorem c_X0_wide {p m : Int} (hw : Rx σ w G) (hR : rok σ) (hP : pok σ) (hp : 0 ≤ p ∧ p < σ.1 12) (hn : 0 < σ.2 11 p) (h : K (some (xI (mvC m (σ.2 11 p) (wd σ p)))) G) : tvW mX0_wide (d + 4) K 0 [some (xR (pO p)), some (xI m)] [] G bc bs := by
  obtain ⟨hPo, -⟩ := hw.2.2.2.1.2 p hp.1 hp.2
  have hpr := Rx_prw hw hR hP hp.1 hp.2
  obtain ⟨lf, hl⟩ := lst_o hpr.1
  have e1 := bAnd_1 m
  unfold mvC at h
  refine w_iload_n (pc' := 1) dX0_wide_0 rfl rfl ?_
  refine w_iconst (pc' := 2) dX0_wide_1 rfl (by decide) ?_
  refine w_iand (pc' := 3) dX0_wide_2 rfl ?_
  -- at 3: .iconst 1
  rw [e1]
  refine w_iconst (pc' := 4) dX0_wide_3 rfl (by decide) ?_
  -- at 4: .if_icmp .ne 13
  refine w_icmp_ne (pc' := 7) (tgt := 17) dX0_wide_4 rfl rfl (fun g => ?_) (fun g => ?_)
  · rw [if_pos (by omega)] at h
    refine w_aload_n (pc' := 18) dX0_wide_17 rfl rfl ?_
    -- at 18: .invokevirtual 311
    refine w_callV0 (pc' := 21) (mc := 0) (ms := 0) dX0_wide_18 rfl tX4_columns q839 rfl rfl q840 q838 hPo rfl (Nat.le_of_ble_eq_true rfl) (Nat.le_of_ble_eq_true rfl) ?_
    refine c_X4_columns hPo hpr hn ?_
    refine w_p1 ?_
    refine w_ireturn dX0_wide_21 rfl ?_
    exact h
  · rw [if_neg (by omega)] at h
    refine w_aload_n (pc' := 8) dX0_wide_7 rfl rfl ?_
    refine w_get 0 (pc' := 11) dX0_wide_8 rfl fX0_140_3 hPo rfl ?_
    -- at 11: .invokevirtual 54
    refine w_callV0 (pc' := 14) (mc := 0) (ms := 0) dX0_wide_11 rfl tJ2_size q207 rfl rfl q208 q206 hl rfl (Nat.le_of_ble_eq_true rfl) (Nat.le_of_ble_eq_true rfl) ?_
    refine c_J2_size hpr.1 ?_
    refine w_p1 ?_
    refine w_goto (tgt := 21) dX0_wide_14 rfl ?_
    -- at 21: .ireturn
    refine w_ireturn dX0_wide_21 rfl ?_
    exact h
theorem c_X0_isMoved_2 {p m y x q' l' o' z : Int} {C' : Int → Int} (hw : Rx σ w G) (hK : kok σ) (hR : rok σ) (hP : pok σ) (hp : 0 ≤ p ∧ p < σ.1 12) (hf : full σ p) (hm : 0 ≤ m ∧ m < 8) (hy : 0 ≤ y ∧ y < mvR m (σ.2 11 p) (wd σ p)) (hx : 0 ≤ x ∧ x < mvC m (σ.2 11 p) (wd σ p)) (hr' : row G q' l' o' C') (z0 : 0 ≤ z) (z1 : z < l') (c2 : isC (σ.1 5) (C' z)) (h1 : mcl σ p m y x = C' z → K (some (xI 1)) G) (h0 : mcl σ p m y x ≠ C' z → K (some (xI 0)) G) : tvW mX0_isMoved_2 (d + 4) K 0 [some (xR oR), some (xR (pO p)), some (xI m), some (xI y), some (xI x), some (xR (rO q')), some (xI z), none, none, none] [] G bc bs := by
  obtain ⟨hPo, -⟩ := hw.2.2.2.1.2 p hp.1 hp.2
  have hpr := Rx_prw hw hR hP hp.1 hp.2
  obtain ⟨lf, hl⟩ := lst_o hpr.1
  obtain ⟨kf, hkl⟩ := lst_o hw.2.1.1
  have hof := hw.1
  unfold off at hof
  have hfw := full_wd hR hP hp hf
  have hcf := cf_r hm hy.1 hy.2 hx.1 hx.2
  obtain ⟨⟨ci0, ci1⟩, cj0, cj1⟩ := hcf
  have hyx : y ≤ 60 ∧ x ≤ 60 := by
    have := hy.2
    have := hx.2
    unfold mvR at *
    unfold mvC at *
    split at * <;> omega
  obtain ⟨fo, fl⟩ := hf.2.2 _ ci0 ci1
  have hj1 : cfJ m (wd σ p) y x < (σ.2 6 (rw_ σ p (cfI m (σ.2 11 p) y x))) := by rw [fl]; exact cj1
  obtain ⟨-, -, -, -, -, b6⟩ := prow hR hP hp ci0 ci1
  have c1 := b6 _ cj0 hj1
  have ec : ca_ σ p (cfI m (σ.2 11 p) y x) (cfJ m (wd σ p) y x) = (σ.2 8 (60 * rw_ σ p (cfI m (σ.2 11 p) y x) + (cfJ m (wd σ p) y x))) := by
    unfold ca_
    rw [fo, Int.sub_zero]
  have hri := (hpr.2 _ ci0 ci1).1
  obtain ⟨n, fk, fm, fs, hnn, ak, am, as, ck, cm, cs⟩ := row_at hri cj0 hj1
  have hnn : (n : Int) = (σ.2 6 (rw_ σ p (cfI m (σ.2 11 p) y x))) := hnn
  have hO := hri.1
  obtain ⟨n', fk', fm', fs', hnn', ak', am', as', ck', cm', cs'⟩ := row_at hr' z0 z1
  have hO' := hr'.1
  unfold mcl at h1 h0
  rw [ec] at h1 h0
  simp only [] at ck cm cs
  generalize (σ.2 8 (60 * rw_ σ p (cfI m (σ.2 11 p) y x) + (cfJ m (wd σ p) y x))) = c at *
  generalize C' z = c' at *
  have no : ∀ u v t, mvd σ c m ≠ c' → tvW mX0_isMoved_2 (d + 4) K 128 [some (xR oR), some (xR (pO p)), some (xI m), some (xI y), some (xI x), some (xR (rO q')), some (xI z), u, v, t] [] G bc bs := by
    intro u v t g
    refine w_iconst (pc' := 129) dX0_isMoved_2_128 rfl (by decide) ?_
    -- at 129: .ireturn
    refine w_zreturn dX0_isMoved_2_129 rfl (by first | exact Or.inl rfl | exact Or.inr rfl | omega) ?_
    exact h0 g
  have yes : ∀ u v t, mvd σ c m = c' → tvW mX0_isMoved_2 (d + 4) K 124 [some (xR oR), some (xR (pO p)), some (xI m), some (xI y), some (xI x), some (xR (rO q')), some (xI z), u, v, t] [] G bc bs := by
    intro u v t g
    refine w_iconst (pc' := 125) dX0_isMoved_2_124 rfl (by decide) ?_
    refine w_goto (tgt := 129) dX0_isMoved_2_125 rfl ?_
    -- at 129: .ireturn
    refine w_zreturn dX0_isMoved_2_129 rfl (by first | exact Or.inl rfl | exact Or.inr rfl | omega) ?_
    exact h1 g
  have hpm := (hP.2 p hp.1 hp.2).1
  refine w_aload_n (pc' := 1) dX0_isMoved_2_0 rfl rfl ?_
  refine w_get 0 (pc' := 4) dX0_isMoved_2_1 rfl fX0_140_3 hPo rfl ?_
  refine w_iload_n (pc' := 5) dX0_isMoved_2_4 rfl rfl ?_
  refine w_aload_n (pc' := 6) dX0_isMoved_2_5 rfl rfl ?_
  refine w_get 0 (pc' := 9) dX0_isMoved_2_6 rfl fX0_140_3 hPo rfl ?_
  -- at 9: .invokevirtual 54
  refine w_callV0 (pc' := 12) (mc := 0) (ms := 0) dX0_isMoved_2_9 rfl tJ2_size q207 rfl rfl q208 q206 hl rfl (Nat.le_of_ble_eq_true rfl) (Nat.le_of_ble_eq_true rfl) ?_
  refine c_J2_size hpr.1 ?_
  refine w_p1 ?_
  refine w_iload_n (pc' := 13) dX0_isMoved_2_12 rfl rfl ?_
  refine w_iload (pc' := 15) dX0_isMoved_2_13 rfl rfl ?_
  -- at 15: .invokestatic 261
  refine w_callS4 (pc' := 18) (mc := 0) (ms := 0) dX0_isMoved_2_15 rfl tX3_row q591 q675 rfl (Nat.le_of_ble_eq_true rfl) (Nat.le_of_ble_eq_true rfl) ?_
  refine c_X3_row ⟨by omega, by omega⟩ ⟨by omega, by omega⟩ ⟨by omega, by omega⟩ ?_
  refine w_p1 ?_
  refine w_callV1 (pc' := 21) (mc := 0) (ms := 0) dX0_isMoved_2_18 rfl tJ2_get q211 rfl rfl q212 q210 hl rfl (Nat.le_of_ble_eq_true rfl) (Nat.le_of_ble_eq_true rfl) ?_
  refine c_J2_get hpr.1 ⟨ci0, ci1⟩ ?_
  refine w_p1 ?_
  refine w_cast (pc' := 24) dX0_isMoved_2_21 rfl hO rfl q425 ?_
  refine w_ast7 (pc' := 26) dX0_isMoved_2_24 rfl rfl ?_
  refine w_iload_n (pc' := 27) dX0_isMoved_2_26 rfl rfl ?_
  refine w_aload_n (pc' := 28) dX0_isMoved_2_27 rfl rfl ?_
  -- at 28: .invokevirtual 311
  refine w_callV0 (pc' := 31) (mc := 0) (ms := 0) dX0_isMoved_2_28 rfl tX4_columns q839 rfl rfl q840 q838 hPo rfl (Nat.le_of_ble_eq_true rfl) (Nat.le_of_ble_eq_true rfl) ?_
  refine c_X4_columns hPo hpr (by omega) ?_
  refine w_p1 ?_
  refine w_st (st' := [xI (wd σ p), xI m]) rfl ?_
  refine w_iload_n (pc' := 32) dX0_isMoved_2_31 rfl rfl ?_
  refine w_iload (pc' := 34) dX0_isMoved_2_32 rfl rfl ?_
  -- at 34: .invokestatic 264
  refine w_callS4 (pc' := 37) (mc := 0) (ms := 0) dX0_isMoved_2_34 rfl tX3_column q594 q676 rfl (Nat.le_of_ble_eq_true rfl) (Nat.le_of_ble_eq_true rfl) ?_
  refine c_X3_column hm ⟨by omega, by omega⟩ ⟨by omega, by omega⟩ ⟨by omega, by omega⟩ ?_
  refine w_p1 ?_
  refine w_ist8 (pc' := 39) dX0_isMoved_2_37 rfl rfl ?_
  refine w_aload (pc' := 41) dX0_isMoved_2_39 rfl rfl ?_
  refine w_get 0 (pc' := 44) dX0_isMoved_2_41 rfl fX0_187_5 hO rfl ?_
  refine w_iload (pc' := 46) dX0_isMoved_2_44 rfl rfl ?_
  refine w_bald (pc' := 47) dX0_isMoved_2_46 rfl ak cj0 (by omega) ?_
  -- at 47: .istore 9
  rw [ck]
  refine w_ist9 (pc' := 49) dX0_isMoved_2_47 rfl rfl ?_
  refine w_iload (pc' := 51) dX0_isMoved_2_49 rfl rfl ?_
  refine w_aload (pc' := 53) dX0_isMoved_2_51 rfl rfl ?_
  refine w_get 0 (pc' := 56) dX0_isMoved_2_53 rfl fX0_187_5 hO' rfl ?_
  refine w_iload (pc' := 58) dX0_isMoved_2_56 rfl rfl ?_
  refine w_bald (pc' := 59) dX0_isMoved_2_58 rfl ak' z0 (by omega) ?_
  -- at 59: .if_icmp .ne 69
  rw [ck']
  by_cases c0 : c = 0
  · have e := cd_0 c0
    subst c0
    rw [cd_mv0] at h1 h0 no yes
    have e2 := cd_eq c1 c2
    refine w_icmp_ne (pc' := 62) (tgt := 128) dX0_isMoved_2_59 rfl rfl (fun g => ?_) (fun g => ?_)
    · exact no _ _ _ (fun z => g (e2.mpr z).1)
    · have z : 0 = c' := by
        rw [e.1] at g
        have := (cd_lt c2).mp (by omega)
        omega
      rw [e.1]
      refine w_iload (pc' := 64) dX0_isMoved_2_62 rfl rfl ?_
      -- at 64: .ifCond .lt 60
      refine w_if_lt (pc' := 67) (tgt := 124) dX0_isMoved_2_64 rfl rfl (fun h_ => ?_) (fun h_ => False.elim (by first | omega | (simp (decide := true) only [au_1, nu_2, au_lt, nu_lt, aw_e, nw_e, au_s, au_n, nu_s, nu_n, au_au, nu_nu, au_nu] at h_; omega)))
      exact yes _ _ _ z
  · obtain ⟨e1, e2, e3⟩ := cd_n c0
    obtain ⟨m1, m2, m3, m4⟩ := cd_mv hK c1 c0 hm
    have r := isC_k c1 c0
    have tt := (hK.2 _ r.1 r.2).2.1
    have tl := hw.2.1.2 _ r.1 r.2
    have hth := thn_r (mOf_r (c := c)).1 (mOf_r (c := c)).2 hm.1 hm.2
    have ee := cd_eq m4 c2
    rw [m1, m2, m3] at ee
    rw [e1]
    refine w_icmp_ne (pc' := 62) (tgt := 128) dX0_isMoved_2_59 rfl rfl (fun g => ?_) (fun g => ?_)
    · exact no _ _ _ (fun z => g (ee.mpr z).1)
    · refine w_iload (pc' := 64) dX0_isMoved_2_62 rfl rfl ?_
      -- at 64: .ifCond .lt 60
      refine w_if_lt (pc' := 67) (tgt := 124) dX0_isMoved_2_64 rfl rfl (fun h_ => False.elim (by first | omega | (simp (decide := true) only [au_1, nu_2, au_lt, nu_lt, aw_e, nw_e, au_s, au_n, nu_s, nu_n, au_au, nu_nu, au_nu] at h_; omega))) (fun h_ => ?_)
      refine w_aload_n (pc' := 68) dX0_isMoved_2_67 rfl rfl ?_
      refine w_get 0 (pc' := 71) dX0_isMoved_2_68 rfl fX0_10_0 hof rfl ?_
      refine w_iload (pc' := 73) dX0_isMoved_2_71 rfl rfl ?_
      -- at 73: .invokevirtual 58
      refine w_callV1 (pc' := 76) (mc := 0) (ms := 0) dX0_isMoved_2_73 rfl tJ2_get q211 rfl rfl q212 q210 hkl rfl (Nat.le_of_ble_eq_true rfl) (Nat.le_of_ble_eq_true rfl) ?_
      refine c_J2_get hw.2.1.1 r ?_
      refine w_p1 ?_
      refine w_cast (pc' := 79) dX0_isMoved_2_76 rfl tl.1 rfl q224 ?_
      refine w_aload (pc' := 81) dX0_isMoved_2_79 rfl rfl ?_
      refine w_get 1 (pc' := 84) dX0_isMoved_2_81 rfl fX0_194_5 hO rfl ?_
      refine w_iload (pc' := 86) dX0_isMoved_2_84 rfl rfl ?_
      refine w_bald (pc' := 87) dX0_isMoved_2_86 rfl am cj0 (by omega) ?_
      -- at 87: .iload_n 2
      rw [cm, e2]
      refine w_iload_n (pc' := 88) dX0_isMoved_2_87 rfl rfl ?_
      -- at 88: .invokestatic 117
      refine w_callS2 (pc' := 91) (mc := 0) (ms := 0) dX0_isMoved_2_88 rfl tX3_then q349 q348 rfl (Nat.le_of_ble_eq_true rfl) (Nat.le_of_ble_eq_true rfl) ?_
      refine c_X3_then mOf_r hm ?_
      refine w_p1 ?_
      refine w_callV1 (pc' := 94) (mc := 0) (ms := 0) dX0_isMoved_2_91 rfl tX2_lies q327 rfl rfl q328 q326 tl.1 rfl (Nat.le_of_ble_eq_true rfl) (Nat.le_of_ble_eq_true rfl) ?_
      refine c_X2_lies tl tt hth ?_
      refine w_p1 ?_
      refine w_aload (pc' := 96) dX0_isMoved_2_94 rfl rfl ?_
      refine w_get 1 (pc' := 99) dX0_isMoved_2_96 rfl fX0_194_5 hO' rfl ?_
      refine w_iload (pc' := 101) dX0_isMoved_2_99 rfl rfl ?_
      refine w_bald (pc' := 102) dX0_isMoved_2_101 rfl am' z0 (by omega) ?_
      -- at 102: .if_icmp .ne 26
      rw [cm']
      refine w_icmp_ne (pc' := 105) (tgt := 128) dX0_isMoved_2_102 rfl rfl (fun g2 => ?_) (fun g2 => ?_)
      · exact no _ _ _ (fun z => g2 (ee.mpr z).2.1)
      · refine w_aload (pc' := 107) dX0_isMoved_2_105 rfl rfl ?_
        refine w_get 2 (pc' := 110) dX0_isMoved_2_107 rfl fX0_190_5 hO rfl ?_
        refine w_iload (pc' := 112) dX0_isMoved_2_110 rfl rfl ?_
        refine w_sald (pc' := 113) dX0_isMoved_2_112 rfl as cj0 (by omega) ?_
        refine w_aload (pc' := 115) dX0_isMoved_2_113 rfl rfl ?_
        refine w_get 2 (pc' := 118) dX0_isMoved_2_115 rfl fX0_190_5 hO' rfl ?_
        refine w_iload (pc' := 120) dX0_isMoved_2_118 rfl rfl ?_
        refine w_sald (pc' := 121) dX0_isMoved_2_120 rfl as' z0 (by omega) ?_
        -- at 121: .if_icmp .ne 7
        rw [cs, cs', e3]
        refine w_icmp_ne (pc' := 124) (tgt := 128) dX0_isMoved_2_121 rfl rfl (fun g3 => ?_) (fun g3 => ?_)
        · exact no _ _ _ (fun z => g3 (ee.mpr z).2.2)
        · exact yes _ _ _ (ee.mp ⟨g, g2, g3⟩)
theorem c_X0_isMoved {p m q : Int} (hw : Rx σ w G) (hK : kok σ) (hR : rok σ) (hP : pok σ) (hp : 0 ≤ p ∧ p < σ.1 12) (hq : 0 ≤ q ∧ q < σ.1 12) (hf : full σ p) (hg : full σ q) (hm : 0 ≤ m ∧ m < 8) (h1 : imv σ p m q → K (some (xI 1)) G) (h0 : ¬ imv σ p m q → K (some (xI 0)) G) : tvW mX0_isMoved (d + 5) K 0 [some (xR oR), some (xR (pO p)), some (xI m), some (xR (pO q)), none, none, none] [] G bc bs := by
  obtain ⟨hQo, -⟩ := hw.2.2.2.1.2 q hq.1 hq.2
  have hqr := Rx_prw hw hR hP hq.1 hq.2
  obtain ⟨lf, hl⟩ := lst_o hqr.1
  have hof := hw.1
  unfold off at hof
  have hfw := full_wd hR hP hp hf
  have hgw := full_wd hR hP hq hg
  have hpm := (hP.2 p hp.1 hp.2).1
  have hqm := (hP.2 q hq.1 hq.2).1
  have fin : ∀ (b : Int) (u v : Option XV), (b = 1 ∧ imv σ p m q ∨ b = 0 ∧ ¬ imv σ p m q) → tvW mX0_isMoved (d + 5) K 109 [some (xR oR), some (xR (pO p)), some (xI m), some (xR (pO q)), some (xI b), u, v] [] G bc bs := by
    intro b u v hb
    refine w_iload (pc' := 111) dX0_isMoved_109 rfl rfl ?_
    -- at 111: .ireturn
    refine w_zreturn dX0_isMoved_111 rfl (by omega) ?_
    rcases hb with ⟨rfl, g⟩ | ⟨rfl, g⟩
    · exact h1 g
    · exact h0 g
  have bad : ∀ (y : Int) (v : Option XV), ¬ imv σ p m q → tvW mX0_isMoved (d + 5) K 37 [some (xR oR), some (xR (pO p)), some (xI m), some (xR (pO q)), some (xI 0), some (xI y), v] [] G bc bs := by
    intro y v g
    refine w_iload (pc' := 39) dX0_isMoved_37 rfl rfl ?_
    refine w_aload_n (pc' := 40) dX0_isMoved_39 rfl rfl ?_
    refine w_get 0 (pc' := 43) dX0_isMoved_40 rfl fX0_140_3 hQo rfl ?_
    -- at 43: .invokevirtual 54
    refine w_callV0 (pc' := 46) (mc := 0) (ms := 0) dX0_isMoved_43 rfl tJ2_size q207 rfl rfl q208 q206 hl rfl (Nat.le_of_ble_eq_true rfl) (Nat.le_of_ble_eq_true rfl) ?_
    refine c_J2_size hqr.1 ?_
    refine w_p1 ?_
    refine w_icmp_ge (pc' := 49) (tgt := 109) dX0_isMoved_46 rfl rfl (fun g2 => ?_) (fun g2 => ?_)
    · exact fin 0 _ _ (Or.inr ⟨rfl, g⟩)
    · refine w_iload (pc' := 51) dX0_isMoved_49 rfl rfl ?_
      -- at 51: .ifCond .eq 58
      refine w_if_eq (pc' := 54) (tgt := 109) dX0_isMoved_51 rfl rfl (fun h_ => ?_) (fun h_ => False.elim (h_ rfl))
      exact fin 0 _ _ (Or.inr ⟨rfl, g⟩)
  have out : ¬ imv σ p m q → tvW mX0_isMoved (d + 5) K 31 [some (xR oR), some (xR (pO p)), some (xI m), some (xR (pO q)), none, none, none] [] G bc bs := by
    intro g
    refine w_iconst (pc' := 32) dX0_isMoved_31 rfl (by decide) ?_
    refine w_ist4 (pc' := 34) dX0_isMoved_32 rfl rfl ?_
    refine w_iconst (pc' := 35) dX0_isMoved_34 rfl (by decide) ?_
    refine w_ist5 (pc' := 37) dX0_isMoved_35 rfl rfl ?_
    -- at 37: .iload 5
    exact bad 0 _ g
  refine w_aload_n (pc' := 1) dX0_isMoved_0 rfl rfl ?_
  refine w_iload_n (pc' := 2) dX0_isMoved_1 rfl rfl ?_
  -- at 2: .invokestatic 312
  refine w_callS2 (pc' := 5) (mc := 0) (ms := 0) dX0_isMoved_2 rfl tX0_high q836 q835 rfl (Nat.le_of_ble_eq_true rfl) (Nat.le_of_ble_eq_true rfl) ?_
  refine c_X0_high hw hR hP hp (by omega) ?_
  refine w_p1 ?_
  refine w_aload_n (pc' := 6) dX0_isMoved_5 rfl rfl ?_
  refine w_get 0 (pc' := 9) dX0_isMoved_6 rfl fX0_140_3 hQo rfl ?_
  -- at 9: .invokevirtual 54
  refine w_callV0 (pc' := 12) (mc := 0) (ms := 0) dX0_isMoved_9 rfl tJ2_size q207 rfl rfl q208 q206 hl rfl (Nat.le_of_ble_eq_true rfl) (Nat.le_of_ble_eq_true rfl) ?_
  refine c_J2_size hqr.1 ?_
  refine w_p1 ?_
  refine w_icmp_ne (pc' := 15) (tgt := 31) dX0_isMoved_12 rfl rfl (fun g => ?_) (fun g => ?_)
  · exact out (fun z => g z.1)
  · refine w_aload_n (pc' := 16) dX0_isMoved_15 rfl rfl ?_
    refine w_iload_n (pc' := 17) dX0_isMoved_16 rfl rfl ?_
    -- at 17: .invokestatic 316
    refine w_callS2 (pc' := 20) (mc := 0) (ms := 0) dX0_isMoved_17 rfl tX0_wide q843 q842 rfl (Nat.le_of_ble_eq_true rfl) (Nat.le_of_ble_eq_true rfl) ?_
    refine c_X0_wide hw hR hP hp (by omega) ?_
    refine w_p1 ?_
    refine w_aload_n (pc' := 21) dX0_isMoved_20 rfl rfl ?_
    -- at 21: .invokevirtual 311
    refine w_callV0 (pc' := 24) (mc := 0) (ms := 0) dX0_isMoved_21 rfl tX4_columns q839 rfl rfl q840 q838 hQo rfl (Nat.le_of_ble_eq_true rfl) (Nat.le_of_ble_eq_true rfl) ?_
    refine c_X4_columns hQo hqr (by omega) ?_
    refine w_p1 ?_
    refine w_st (st' := [xI (wd σ q), xI (mvC m (σ.2 11 p) (wd σ p))]) rfl ?_
    refine w_icmp_ne (pc' := 27) (tgt := 31) dX0_isMoved_24 rfl rfl (fun g2 => ?_) (fun g2 => ?_)
    · exact out (fun z => g2 z.2.1)
    · refine w_iconst (pc' := 28) dX0_isMoved_27 rfl (by decide) ?_
      refine w_goto (tgt := 32) dX0_isMoved_28 rfl ?_
      refine w_ist4 (pc' := 34) dX0_isMoved_32 rfl rfl ?_
      refine w_iconst (pc' := 35) dX0_isMoved_34 rfl (by decide) ?_
      refine w_ist5 (pc' := 37) dX0_isMoved_35 rfl rfl ?_
      -- at 37: .iload 5
      refine up (T := fun y => ∀ v : Option XV, (∀ i j, 0 ≤ i → i < y → 0 ≤ j → j < mvC m (σ.2 11 p) (wd σ p) → mcl σ p m i j = ca_ σ q i j) → tvW mX0_isMoved (d + 5) K 37 [some (xR oR), some (xR (pO p)), some (xI m), some (xR (pO q)), some (xI 1), some (xI y), v] [] G bc bs) (σ.2 11 q) hqm.1 (fun v hn => ?_) (fun y y0 y1 ih v hn => ?_) _ (fun i j a b => by omega)
      · refine w_iload (pc' := 39) dX0_isMoved_37 rfl rfl ?_
        refine w_aload_n (pc' := 40) dX0_isMoved_39 rfl rfl ?_
        refine w_get 0 (pc' := 43) dX0_isMoved_40 rfl fX0_140_3 hQo rfl ?_
        -- at 43: .invokevirtual 54
        refine w_callV0 (pc' := 46) (mc := 0) (ms := 0) dX0_isMoved_43 rfl tJ2_size q207 rfl rfl q208 q206 hl rfl (Nat.le_of_ble_eq_true rfl) (Nat.le_of_ble_eq_true rfl) ?_
        refine c_J2_size hqr.1 ?_
        refine w_p1 ?_
        refine w_icmp_ge (pc' := 49) (tgt := 109) dX0_isMoved_46 rfl rfl (fun h_ => ?_) (fun h_ => False.elim (by first | omega | (simp (decide := true) only [au_1, nu_2, au_lt, nu_lt, aw_e, nw_e, au_s, au_n, nu_s, nu_n, au_au, nu_nu, au_nu] at h_; omega)))
        exact fin 1 _ _ (Or.inl ⟨rfl, g, g2, fun i j i0 i1 j0 j1 => hn i j i0 (by omega) j0 j1⟩)
      · obtain ⟨fo, fl⟩ := hg.2.2 _ y0 y1
        obtain ⟨-, -, -, -, -, b6⟩ := prow hR hP hq y0 y1
        have hri := (hqr.2 y y0 y1).1
        refine w_iload (pc' := 39) dX0_isMoved_37 rfl rfl ?_
        refine w_aload_n (pc' := 40) dX0_isMoved_39 rfl rfl ?_
        refine w_get 0 (pc' := 43) dX0_isMoved_40 rfl fX0_140_3 hQo rfl ?_
        -- at 43: .invokevirtual 54
        refine w_callV0 (pc' := 46) (mc := 0) (ms := 0) dX0_isMoved_43 rfl tJ2_size q207 rfl rfl q208 q206 hl rfl (Nat.le_of_ble_eq_true rfl) (Nat.le_of_ble_eq_true rfl) ?_
        refine c_J2_size hqr.1 ?_
        refine w_p1 ?_
        refine w_icmp_ge (pc' := 49) (tgt := 109) dX0_isMoved_46 rfl rfl (fun h_ => False.elim (by first | omega | (simp (decide := true) only [au_1, nu_2, au_lt, nu_lt, aw_e, nw_e, au_s, au_n, nu_s, nu_n, au_au, nu_nu, au_nu] at h_; omega))) (fun h_ => ?_)
        refine w_iload (pc' := 51) dX0_isMoved_49 rfl rfl ?_
        -- at 51: .ifCond .eq 58
        refine w_if_eq (pc' := 54) (tgt := 109) dX0_isMoved_51 rfl rfl (fun h_ => False.elim (by first | omega | (simp (decide := true) only [au_1, nu_2, au_lt, nu_lt, aw_e, nw_e, au_s, au_n, nu_s, nu_n, au_au, nu_nu, au_nu] at h_; omega))) (fun h_ => ?_)
        refine w_iconst (pc' := 55) dX0_isMoved_54 rfl (by decide) ?_
        refine w_ist6 (pc' := 57) dX0_isMoved_55 rfl rfl ?_
        -- at 57: .iload 6
        have stop : ∀ x : Int, ¬ imv σ p m q → tvW mX0_isMoved (d + 5) K 57 [some (xR oR), some (xR (pO p)), some (xI m), some (xR (pO q)), some (xI 0), some (xI y), some (xI x)] [] G bc bs := by
          intro x z
          refine w_iload (pc' := 59) dX0_isMoved_57 rfl rfl ?_
          refine w_aload_n (pc' := 60) dX0_isMoved_59 rfl rfl ?_
          -- at 60: .invokevirtual 311
          refine w_callV0 (pc' := 63) (mc := 0) (ms := 0) dX0_isMoved_60 rfl tX4_columns q839 rfl rfl q840 q838 hQo rfl (Nat.le_of_ble_eq_true rfl) (Nat.le_of_ble_eq_true rfl) ?_
          refine c_X4_columns hQo hqr (by omega) ?_
          refine w_p1 ?_
          refine w_st (st' := [xI (wd σ q), xI x]) rfl ?_
          refine w_icmp_ge (pc' := 66) (tgt := 103) dX0_isMoved_63 rfl rfl (fun g3 => ?_) (fun g3 => ?_)
          · refine w_inc5 (pc' := 106) dX0_isMoved_103 rfl rfl ⟨by first | omega | (simp (decide := true) only [au_1, nu_2, au_lt, nu_lt, aw_e, nw_e, au_s, au_n, nu_s, nu_n, au_au, nu_nu, au_nu]; omega), by first | omega | (simp (decide := true) only [au_1, nu_2, au_lt, nu_lt, aw_e, nw_e, au_s, au_n, nu_s, nu_n, au_au, nu_nu, au_nu]; omega)⟩ ?_
            refine w_goto (tgt := 37) dX0_isMoved_106 rfl ?_
            -- at 37: .iload 5
            exact bad _ _ z
          · refine w_iload (pc' := 68) dX0_isMoved_66 rfl rfl ?_
            -- at 68: .ifCond .eq 35
            refine w_if_eq (pc' := 71) (tgt := 103) dX0_isMoved_68 rfl rfl (fun h_ => ?_) (fun h_ => False.elim (h_ rfl))
            refine w_inc5 (pc' := 106) dX0_isMoved_103 rfl rfl ⟨by first | omega | (simp (decide := true) only [au_1, nu_2, au_lt, nu_lt, aw_e, nw_e, au_s, au_n, nu_s, nu_n, au_au, nu_nu, au_nu]; omega), by first | omega | (simp (decide := true) only [au_1, nu_2, au_lt, nu_lt, aw_e, nw_e, au_s, au_n, nu_s, nu_n, au_au, nu_nu, au_nu]; omega)⟩ ?_
            refine w_goto (tgt := 37) dX0_isMoved_106 rfl ?_
            -- at 37: .iload 5
            exact bad _ _ z
        refine up (T := fun x => (∀ j, 0 ≤ j → j < x → mcl σ p m y j = ca_ σ q y j) → tvW mX0_isMoved (d + 5) K 57 [some (xR oR), some (xR (pO p)), some (xI m), some (xR (pO q)), some (xI 1), some (xI y), some (xI x)] [] G bc bs) (wd σ q) (by omega) (fun hx => ?_) (fun x x0 x1 ihx hx => ?_) (fun j a b => by omega)
        · refine w_iload (pc' := 59) dX0_isMoved_57 rfl rfl ?_
          refine w_aload_n (pc' := 60) dX0_isMoved_59 rfl rfl ?_
          -- at 60: .invokevirtual 311
          refine w_callV0 (pc' := 63) (mc := 0) (ms := 0) dX0_isMoved_60 rfl tX4_columns q839 rfl rfl q840 q838 hQo rfl (Nat.le_of_ble_eq_true rfl) (Nat.le_of_ble_eq_true rfl) ?_
          refine c_X4_columns hQo hqr (by omega) ?_
          refine w_p1 ?_
          refine w_st (st' := [xI (wd σ q), xI (wd σ q)]) rfl ?_
          refine w_icmp_ge (pc' := 66) (tgt := 103) dX0_isMoved_63 rfl rfl (fun h_ => ?_) (fun h_ => False.elim (by first | omega | (simp (decide := true) only [au_1, nu_2, au_lt, nu_lt, aw_e, nw_e, au_s, au_n, nu_s, nu_n, au_au, nu_nu, au_nu] at h_; omega)))
          refine w_inc5 (pc' := 106) dX0_isMoved_103 rfl rfl ⟨by first | omega | (simp (decide := true) only [au_1, nu_2, au_lt, nu_lt, aw_e, nw_e, au_s, au_n, nu_s, nu_n, au_au, nu_nu, au_nu]; omega), by first | omega | (simp (decide := true) only [au_1, nu_2, au_lt, nu_lt, aw_e, nw_e, au_s, au_n, nu_s, nu_n, au_au, nu_nu, au_nu]; omega)⟩ ?_
          refine w_goto (tgt := 37) dX0_isMoved_106 rfl ?_
          -- at 37: .iload 5
          refine ih _ (fun i j i0 i1 j0 j1 => ?_)
          by_cases e : i = y
          · rw [e]; exact hx j j0 (by omega)
          · exact hn i j i0 (by omega) j0 j1
        · have hx1 : x < (σ.2 6 (rw_ σ q y)) := by rw [fl]; exact x1
          have ec : ca_ σ q y x = (σ.2 8 (60 * rw_ σ q y + x)) := by
            unfold ca_
            rw [fo, Int.sub_zero]
          refine w_iload (pc' := 59) dX0_isMoved_57 rfl rfl ?_
          refine w_aload_n (pc' := 60) dX0_isMoved_59 rfl rfl ?_
          -- at 60: .invokevirtual 311
          refine w_callV0 (pc' := 63) (mc := 0) (ms := 0) dX0_isMoved_60 rfl tX4_columns q839 rfl rfl q840 q838 hQo rfl (Nat.le_of_ble_eq_true rfl) (Nat.le_of_ble_eq_true rfl) ?_
          refine c_X4_columns hQo hqr (by omega) ?_
          refine w_p1 ?_
          refine w_st (st' := [xI (wd σ q), xI x]) rfl ?_
          refine w_icmp_ge (pc' := 66) (tgt := 103) dX0_isMoved_63 rfl rfl (fun h_ => False.elim (by first | omega | (simp (decide := true) only [au_1, nu_2, au_lt, nu_lt, aw_e, nw_e, au_s, au_n, nu_s, nu_n, au_au, nu_nu, au_nu] at h_; omega))) (fun h_ => ?_)
          refine w_iload (pc' := 68) dX0_isMoved_66 rfl rfl ?_
          -- at 68: .ifCond .eq 35
          refine w_if_eq (pc' := 71) (tgt := 103) dX0_isMoved_68 rfl rfl (fun h_ => False.elim (by first | omega | (simp (decide := true) only [au_1, nu_2, au_lt, nu_lt, aw_e, nw_e, au_s, au_n, nu_s, nu_n, au_au, nu_nu, au_nu] at h_; omega))) (fun h_ => ?_)
          refine w_aload_n (pc' := 72) dX0_isMoved_71 rfl rfl ?_
          refine w_aload_n (pc' := 73) dX0_isMoved_72 rfl rfl ?_
          refine w_iload_n (pc' := 74) dX0_isMoved_73 rfl rfl ?_
          refine w_iload (pc' := 76) dX0_isMoved_74 rfl rfl ?_
          refine w_iload (pc' := 78) dX0_isMoved_76 rfl rfl ?_
          refine w_aload_n (pc' := 79) dX0_isMoved_78 rfl rfl ?_
          refine w_get 0 (pc' := 82) dX0_isMoved_79 rfl fX0_140_3 hQo rfl ?_
          refine w_iload (pc' := 84) dX0_isMoved_82 rfl rfl ?_
          -- at 84: .invokevirtual 58
          refine w_callV1 (pc' := 87) (mc := 0) (ms := 0) dX0_isMoved_84 rfl tJ2_get q211 rfl rfl q212 q210 hl rfl (Nat.le_of_ble_eq_true rfl) (Nat.le_of_ble_eq_true rfl) ?_
          refine c_J2_get hqr.1 ⟨y0, y1⟩ ?_
          refine w_p1 ?_
          refine w_cast (pc' := 90) dX0_isMoved_87 rfl hri.1 rfl q425 ?_
          refine w_iload (pc' := 92) dX0_isMoved_90 rfl rfl ?_
          -- at 92: .invokevirtual 319
          refine w_callV6 (pc' := 95) (mc := 0) (ms := 0) dX0_isMoved_92 rfl tX0_isMoved_2 q847 rfl rfl qs22 q845 hof rfl (Nat.le_of_ble_eq_true rfl) (Nat.le_of_ble_eq_true rfl) ?_
          refine c_X0_isMoved_2 hw hK hR hP hp hf hm ⟨y0, by omega⟩ ⟨x0, by omega⟩ hri x0 hx1 (b6 x x0 hx1) (fun z => w_p1 ?_) (fun z => w_p1 ?_)
          · refine w_ist4 (pc' := 97) dX0_isMoved_95 rfl rfl ?_
            refine w_inc6 (pc' := 100) dX0_isMoved_97 rfl rfl ⟨by first | omega | (simp (decide := true) only [au_1, nu_2, au_lt, nu_lt, aw_e, nw_e, au_s, au_n, nu_s, nu_n, au_au, nu_nu, au_nu]; omega), by first | omega | (simp (decide := true) only [au_1, nu_2, au_lt, nu_lt, aw_e, nw_e, au_s, au_n, nu_s, nu_n, au_au, nu_nu, au_nu]; omega)⟩ ?_
            refine w_goto (tgt := 57) dX0_isMoved_100 rfl ?_
            -- at 57: .iload 6
            refine ihx (fun j j0 j1 => ?_)
            by_cases e : j = x
            · rw [e, ec]; exact z
            · exact hx j j0 (by omega)
          · refine w_ist4 (pc' := 97) dX0_isMoved_95 rfl rfl ?_
            refine w_inc6 (pc' := 100) dX0_isMoved_97 rfl rfl ⟨by first | omega | (simp (decide := true) only [au_1, nu_2, au_lt, nu_lt, aw_e, nw_e, au_s, au_n, nu_s, nu_n, au_au, nu_nu, au_nu]; omega), by first | omega | (simp (decide := true) only [au_1, nu_2, au_lt, nu_lt, aw_e, nw_e, au_s, au_n, nu_s, nu_n, au_au, nu_nu, au_nu]; omega)⟩ ?_
            refine w_goto (tgt := 57) dX0_isMoved_100 rfl ?_
            -- at 57: .iload 6
            refine stop _ (fun q' => z ?_)
            exact (q'.2.2 y x y0 (by omega) x0 (by omega)).trans ec
theorem c_X0_kept {p : Int} (hw : Rx σ w G) (hK : kok σ) (hR : rok σ) (hP : pok σ) (h : K (some (xI (aKept σ p))) G) : tvW mX0_kept (d + 6) K 0 [some (xR oR), some (xI p), none, none, none] [] G bc bs := by
  have hof := hw.1
  unfold off at hof
  unfold aKept at h
  refine w_aload_n (pc' := 1) dX0_kept_0 rfl rfl ?_
  refine w_iload_n (pc' := 2) dX0_kept_1 rfl rfl ?_
  -- at 2: .invokevirtual 150
  refine w_callV1 (pc' := 5) (mc := 0) (ms := 0) dX0_kept_2 rfl tX0_pattern_2 q375 rfl rfl qs4 q373 hof rfl (Nat.le_of_ble_eq_true rfl) (Nat.le_of_ble_eq_true rfl) ?_
  refine c_X0_pattern_2 hw (fun p0 p1 => w_p1 ?_) (fun g => w_p1 ?_)
  · have hp : 0 ≤ p ∧ p < σ.1 12 := ⟨p0, p1⟩
    obtain ⟨hPo, -⟩ := hw.2.2.2.1.2 p p0 p1
    have hpr := Rx_prw hw hR hP p0 p1
    rw [ic_t hp] at h
    refine w_ast2 (pc' := 6) dX0_kept_5 rfl rfl ?_
    refine w_aload_n (pc' := 7) dX0_kept_6 rfl rfl ?_
    -- at 7: .ifnonnull 5
    refine w_ifnonnull (pc' := 10) (tgt := 12) dX0_kept_7 rfl rfl (fun h_ => ?_) (fun h_ => False.elim (nomatch h_))
    refine w_iconst (pc' := 13) dX0_kept_12 rfl (by decide) ?_
    refine w_ist3 (pc' := 14) dX0_kept_13 rfl rfl ?_
    refine w_iconst (pc' := 15) dX0_kept_14 rfl (by decide) ?_
    refine w_ist4 (pc' := 17) dX0_kept_15 rfl rfl ?_
    -- at 17: .iload 4
    have loop : ∀ (j m : Nat), m + j = 8 → (m = 0 ∨ full σ p) → tvW mX0_kept (d + 6) K 17 [some (xR oR), some (xI p), some (xR (pO p)), some (xI (kbt σ p m)), some (xI (m : Int))] [] G bc bs := by
      intro j
      induction j with
      | zero =>
        intro m hj hf
        have hfF : full σ p := by rcases hf with q | q
                                  · omega
                                  · exact q
        have em : m = 8 := by omega
        subst em
        rw [ic_t hfF] at h
        refine w_iload (pc' := 19) dX0_kept_17 rfl rfl ?_
        refine w_bipush (pc' := 21) dX0_kept_19 rfl (by decide +kernel) (by decide) ?_
        -- at 21: .if_icmp .ge 34
        refine w_icmp_ge (pc' := 24) (tgt := 55) dX0_kept_21 rfl rfl (fun h_ => ?_) (fun h_ => False.elim (by first | omega | (simp (decide := true) only [au_1, nu_2, au_lt, nu_lt, aw_e, nw_e, au_s, au_n, nu_s, nu_n, au_au, nu_nu, au_nu] at h_; omega)))
        refine w_iload_n (pc' := 56) dX0_kept_55 rfl rfl ?_
        -- at 56: .ireturn
        refine w_ireturn dX0_kept_56 rfl ?_
        exact h
      | succ j ih =>
        intro m hj hf0
        refine w_iload (pc' := 19) dX0_kept_17 rfl rfl ?_
        refine w_bipush (pc' := 21) dX0_kept_19 rfl (by decide +kernel) (by decide) ?_
        -- at 21: .if_icmp .ge 34
        refine w_icmp_ge (pc' := 24) (tgt := 55) dX0_kept_21 rfl rfl (fun h_ => False.elim (by first | omega | (simp (decide := true) only [au_1, nu_2, au_lt, nu_lt, aw_e, nw_e, au_s, au_n, nu_s, nu_n, au_au, nu_nu, au_nu] at h_; omega))) (fun h_ => ?_)
        refine w_aload_n (pc' := 25) dX0_kept_24 rfl rfl ?_
        -- at 25: .invokevirtual 323
        refine w_callV0 (pc' := 28) (mc := 0) (ms := 0) dX0_kept_25 rfl tX4_isFull q824 rfl rfl q825 q823 hPo rfl (Nat.le_of_ble_eq_true rfl) (Nat.le_of_ble_eq_true rfl) ?_
        refine c_X4_isFull hPo hpr (fun hf => w_p1 ?_) (fun hf => w_p1 ?_)
        · have hf : full σ p := hf
          refine w_if_eq (pc' := 31) (tgt := 55) dX0_kept_28 rfl rfl (fun h_ => False.elim (by first | omega | (simp (decide := true) only [au_1, nu_2, au_lt, nu_lt, aw_e, nw_e, au_s, au_n, nu_s, nu_n, au_au, nu_nu, au_nu] at h_; omega))) (fun h_ => ?_)
          refine w_aload_n (pc' := 32) dX0_kept_31 rfl rfl ?_
          refine w_aload_n (pc' := 33) dX0_kept_32 rfl rfl ?_
          refine w_iload (pc' := 35) dX0_kept_33 rfl rfl ?_
          refine w_aload_n (pc' := 36) dX0_kept_35 rfl rfl ?_
          -- at 36: .invokevirtual 327
          refine w_callV3 (pc' := 39) (mc := 0) (ms := 0) dX0_kept_36 rfl tX0_isMoved q833 rfl rfl qs21 q831 hof rfl (Nat.le_of_ble_eq_true rfl) (Nat.le_of_ble_eq_true rfl) ?_
          refine c_X0_isMoved hw hK hR hP hp hp hf hf ⟨by omega, by omega⟩ (fun q => w_p1 ?_) (fun q => w_p1 ?_)
          · refine w_if_eq (pc' := 42) (tgt := 49) dX0_kept_39 rfl rfl (fun h_ => False.elim (by first | omega | (simp (decide := true) only [au_1, nu_2, au_lt, nu_lt, aw_e, nw_e, au_s, au_n, nu_s, nu_n, au_au, nu_nu, au_nu] at h_; omega))) (fun h_ => ?_)
            refine w_iload_n (pc' := 43) dX0_kept_42 rfl rfl ?_
            refine w_iconst (pc' := 44) dX0_kept_43 rfl (by decide) ?_
            refine w_iload (pc' := 46) dX0_kept_44 rfl rfl ?_
            refine w_ishl (pc' := 47) dX0_kept_46 rfl ?_
            refine w_ior (pc' := 48) dX0_kept_47 rfl ?_
            refine w_ist3 (pc' := 49) dX0_kept_48 rfl rfl ?_
            refine w_inc4 (pc' := 52) dX0_kept_49 rfl rfl ⟨by first | omega | (simp (decide := true) only [au_1, nu_2, au_lt, nu_lt, aw_e, nw_e, au_s, au_n, nu_s, nu_n, au_au, nu_nu, au_nu]; omega), by first | omega | (simp (decide := true) only [au_1, nu_2, au_lt, nu_lt, aw_e, nw_e, au_s, au_n, nu_s, nu_n, au_au, nu_nu, au_nu]; omega)⟩ ?_
            refine w_goto (tgt := 17) dX0_kept_52 rfl ?_
            -- at 17: .iload 4
            have := ih (m + 1) (by omega) (Or.inr hf)
            rw [show kbt σ p (m + 1) = bOr (kbt σ p m) (bShl 1 m) from ic_t q] at this
            exact this
          · refine w_if_eq (pc' := 42) (tgt := 49) dX0_kept_39 rfl rfl (fun h_ => ?_) (fun h_ => False.elim (by first | omega | (simp (decide := true) only [au_1, nu_2, au_lt, nu_lt, aw_e, nw_e, au_s, au_n, nu_s, nu_n, au_au, nu_nu, au_nu] at h_; omega)))
            refine w_inc4 (pc' := 52) dX0_kept_49 rfl rfl ⟨by first | omega | (simp (decide := true) only [au_1, nu_2, au_lt, nu_lt, aw_e, nw_e, au_s, au_n, nu_s, nu_n, au_au, nu_nu, au_nu]; omega), by first | omega | (simp (decide := true) only [au_1, nu_2, au_lt, nu_lt, aw_e, nw_e, au_s, au_n, nu_s, nu_n, au_au, nu_nu, au_nu]; omega)⟩ ?_
            refine w_goto (tgt := 17) dX0_kept_52 rfl ?_
            -- at 17: .iload 4
            have := ih (m + 1) (by omega) (Or.inr hf)
            rw [show kbt σ p (m + 1) = kbt σ p m from ic_f q] at this
            exact this
        · have hf : ¬ full σ p := hf
          have em : m = 0 := by rcases hf0 with q | q
                                · exact q
                                · exact absurd q hf
          subst em
          rw [ic_f hf] at h
          refine w_if_eq (pc' := 31) (tgt := 55) dX0_kept_28 rfl rfl (fun h_ => ?_) (fun h_ => False.elim (by first | omega | (simp (decide := true) only [au_1, nu_2, au_lt, nu_lt, aw_e, nw_e, au_s, au_n, nu_s, nu_n, au_au, nu_nu, au_nu] at h_; omega)))
          refine w_iload_n (pc' := 56) dX0_kept_55 rfl rfl ?_
          -- at 56: .ireturn
          refine w_ireturn dX0_kept_56 rfl ?_
          exact h
    exact loop 8 0 rfl (Or.inl rfl)
  · rw [ic_f g] at h
    refine w_ast2 (pc' := 6) dX0_kept_5 rfl rfl ?_
    refine w_aload_n (pc' := 7) dX0_kept_6 rfl rfl ?_
    -- at 7: .ifnonnull 5
    refine w_ifnonnull (pc' := 10) (tgt := 12) dX0_kept_7 rfl rfl (fun h_ => False.elim (h_ rfl)) (fun h_ => ?_)
    refine w_iconst (pc' := 11) dX0_kept_10 rfl (by decide) ?_
    -- at 11: .ireturn
    refine w_ireturn dX0_kept_11 rfl ?_
    exact h
theorem c_X0_congruent {p q : Int} (hw : Rx σ w G) (hK : kok σ) (hR : rok σ) (hP : pok σ) (h : K (some (xI (aCong σ p q))) G) : tvW mX0_congruent (d + 6) K 0 [some (xR oR), some (xI p), some (xI q), none, none, none] [] G bc bs := by
  have hof := hw.1
  unfold off at hof
  unfold aCong at h
  have bad : ∀ o o', ¬ ((0 ≤ p ∧ p < σ.1 12) ∧ (0 ≤ q ∧ q < σ.1 12) ∧ full σ p ∧ full σ q) → tvW mX0_congruent (d + 6) K 37 [some (xR oR), some (xI p), some (xI q), some (xO o), some (xO o'), none] [] G bc bs := by
    intro o o' z
    rw [ic_f z] at h
    refine w_iconst (pc' := 38) dX0_congruent_37 rfl (by decide) ?_
    -- at 38: .ireturn
    refine w_ireturn dX0_congruent_38 rfl ?_
    exact h
  refine w_aload_n (pc' := 1) dX0_congruent_0 rfl rfl ?_
  refine w_iload_n (pc' := 2) dX0_congruent_1 rfl rfl ?_
  -- at 2: .invokevirtual 150
  refine w_callV1 (pc' := 5) (mc := 0) (ms := 0) dX0_congruent_2 rfl tX0_pattern_2 q375 rfl rfl qs4 q373 hof rfl (Nat.le_of_ble_eq_true rfl) (Nat.le_of_ble_eq_true rfl) ?_
  refine c_X0_pattern_2 hw (fun p0 p1 => w_p1 ?_) (fun g => w_p1 ?_)
  · obtain ⟨hPo, -⟩ := hw.2.2.2.1.2 p p0 p1
    have hpr := Rx_prw hw hR hP p0 p1
    refine w_ast3 (pc' := 6) dX0_congruent_5 rfl rfl ?_
    refine w_aload_n (pc' := 7) dX0_congruent_6 rfl rfl ?_
    refine w_iload_n (pc' := 8) dX0_congruent_7 rfl rfl ?_
    -- at 8: .invokevirtual 150
    refine w_callV1 (pc' := 11) (mc := 0) (ms := 0) dX0_congruent_8 rfl tX0_pattern_2 q375 rfl rfl qs4 q373 hof rfl (Nat.le_of_ble_eq_true rfl) (Nat.le_of_ble_eq_true rfl) ?_
    refine c_X0_pattern_2 hw (fun q0 q1 => w_p1 ?_) (fun g => w_p1 ?_)
    · obtain ⟨hQo, -⟩ := hw.2.2.2.1.2 q q0 q1
      have hqr := Rx_prw hw hR hP q0 q1
      refine w_ast4 (pc' := 13) dX0_congruent_11 rfl rfl ?_
      refine w_aload_n (pc' := 14) dX0_congruent_13 rfl rfl ?_
      -- at 14: .ifnull 23
      refine w_ifnull (pc' := 17) (tgt := 37) dX0_congruent_14 rfl rfl (fun h_ => False.elim (nomatch h_)) (fun h_ => ?_)
      refine w_aload (pc' := 19) dX0_congruent_17 rfl rfl ?_
      -- at 19: .ifnull 18
      refine w_ifnull (pc' := 22) (tgt := 37) dX0_congruent_19 rfl rfl (fun h_ => False.elim (nomatch h_)) (fun h_ => ?_)
      refine w_aload_n (pc' := 23) dX0_congruent_22 rfl rfl ?_
      -- at 23: .invokevirtual 323
      refine w_callV0 (pc' := 26) (mc := 0) (ms := 0) dX0_congruent_23 rfl tX4_isFull q824 rfl rfl q825 q823 hPo rfl (Nat.le_of_ble_eq_true rfl) (Nat.le_of_ble_eq_true rfl) ?_
      refine c_X4_isFull hPo hpr (fun hf => w_p1 ?_) (fun hf => w_p1 ?_)
      · have hf : full σ p := hf
        refine w_if_eq (pc' := 29) (tgt := 37) dX0_congruent_26 rfl rfl (fun h_ => False.elim (by first | omega | (simp (decide := true) only [au_1, nu_2, au_lt, nu_lt, aw_e, nw_e, au_s, au_n, nu_s, nu_n, au_au, nu_nu, au_nu] at h_; omega))) (fun h_ => ?_)
        refine w_aload (pc' := 31) dX0_congruent_29 rfl rfl ?_
        -- at 31: .invokevirtual 323
        refine w_callV0 (pc' := 34) (mc := 0) (ms := 0) dX0_congruent_31 rfl tX4_isFull q824 rfl rfl q825 q823 hQo rfl (Nat.le_of_ble_eq_true rfl) (Nat.le_of_ble_eq_true rfl) ?_
        refine c_X4_isFull hQo hqr (fun hg => w_p1 ?_) (fun hg => w_p1 ?_)
        · have hg : full σ q := hg
          refine w_if_ne (pc' := 37) (tgt := 39) dX0_congruent_34 rfl rfl (fun h_ => ?_) (fun h_ => False.elim (by first | omega | (simp (decide := true) only [au_1, nu_2, au_lt, nu_lt, aw_e, nw_e, au_s, au_n, nu_s, nu_n, au_au, nu_nu, au_nu] at h_; omega)))
          rw [ic_t ⟨⟨p0, p1⟩, ⟨q0, q1⟩, hf, hg⟩] at h
          refine w_iconst (pc' := 40) dX0_congruent_39 rfl (by decide) ?_
          refine w_ist5 (pc' := 42) dX0_congruent_40 rfl rfl ?_
          -- at 42: .iload 5
          refine up (T := fun m => (∀ m', 0 ≤ m' → m' < m → ¬ imv σ p m' q) → tvW mX0_congruent (d + 6) K 42 [some (xR oR), some (xI p), some (xI q), some (xR (pO p)), some (xR (pO q)), some (xI m)] [] G bc bs) (a := 0) 8 (by omega) (fun hn => ?_) (fun m m0 m1 ih hn => ?_) (fun m' a b => by omega)
          · rw [fi_no hn] at h
            refine w_iload (pc' := 44) dX0_congruent_42 rfl rfl ?_
            refine w_bipush (pc' := 46) dX0_congruent_44 rfl (by decide +kernel) (by decide) ?_
            -- at 46: .if_icmp .ge 24
            refine w_icmp_ge (pc' := 49) (tgt := 70) dX0_congruent_46 rfl rfl (fun h_ => ?_) (fun h_ => False.elim (by first | omega | (simp (decide := true) only [au_1, nu_2, au_lt, nu_lt, aw_e, nw_e, au_s, au_n, nu_s, nu_n, au_au, nu_nu, au_nu] at h_; omega)))
            refine w_iconst (pc' := 71) dX0_congruent_70 rfl (by decide) ?_
            -- at 71: .ireturn
            refine w_ireturn dX0_congruent_71 rfl ?_
            exact h
          · refine w_iload (pc' := 44) dX0_congruent_42 rfl rfl ?_
            refine w_bipush (pc' := 46) dX0_congruent_44 rfl (by decide +kernel) (by decide) ?_
            -- at 46: .if_icmp .ge 24
            refine w_icmp_ge (pc' := 49) (tgt := 70) dX0_congruent_46 rfl rfl (fun h_ => False.elim (by first | omega | (simp (decide := true) only [au_1, nu_2, au_lt, nu_lt, aw_e, nw_e, au_s, au_n, nu_s, nu_n, au_au, nu_nu, au_nu] at h_; omega))) (fun h_ => ?_)
            refine w_aload_n (pc' := 50) dX0_congruent_49 rfl rfl ?_
            refine w_aload_n (pc' := 51) dX0_congruent_50 rfl rfl ?_
            refine w_iload (pc' := 53) dX0_congruent_51 rfl rfl ?_
            refine w_aload (pc' := 55) dX0_congruent_53 rfl rfl ?_
            -- at 55: .invokevirtual 327
            refine w_callV3 (pc' := 58) (mc := 0) (ms := 0) dX0_congruent_55 rfl tX0_isMoved q833 rfl rfl qs21 q831 hof rfl (Nat.le_of_ble_eq_true rfl) (Nat.le_of_ble_eq_true rfl) ?_
            refine c_X0_isMoved hw hK hR hP ⟨p0, p1⟩ ⟨q0, q1⟩ hf hg ⟨m0, m1⟩ (fun z => w_p1 ?_) (fun z => w_p1 ?_)
            · rw [fi_hit (P := fun m => imv σ p m q) m0 m1 z hn] at h
              refine w_if_eq (pc' := 61) (tgt := 64) dX0_congruent_58 rfl rfl (fun h_ => False.elim (by first | omega | (simp (decide := true) only [au_1, nu_2, au_lt, nu_lt, aw_e, nw_e, au_s, au_n, nu_s, nu_n, au_au, nu_nu, au_nu] at h_; omega))) (fun h_ => ?_)
              refine w_iload (pc' := 63) dX0_congruent_61 rfl rfl ?_
              -- at 63: .ireturn
              refine w_ireturn dX0_congruent_63 rfl ?_
              exact h
            · refine w_if_eq (pc' := 61) (tgt := 64) dX0_congruent_58 rfl rfl (fun h_ => ?_) (fun h_ => False.elim (by first | omega | (simp (decide := true) only [au_1, nu_2, au_lt, nu_lt, aw_e, nw_e, au_s, au_n, nu_s, nu_n, au_au, nu_nu, au_nu] at h_; omega)))
              refine w_inc5 (pc' := 67) dX0_congruent_64 rfl rfl ⟨by first | omega | (simp (decide := true) only [au_1, nu_2, au_lt, nu_lt, aw_e, nw_e, au_s, au_n, nu_s, nu_n, au_au, nu_nu, au_nu]; omega), by first | omega | (simp (decide := true) only [au_1, nu_2, au_lt, nu_lt, aw_e, nw_e, au_s, au_n, nu_s, nu_n, au_au, nu_nu, au_nu]; omega)⟩ ?_
              refine w_goto (tgt := 42) dX0_congruent_67 rfl ?_
              -- at 42: .iload 5
              refine ih (fun m' a b => ?_)
              by_cases e : m' = m
              · rw [e]; exact z
              · exact hn m' a (by omega)
        · refine w_if_ne (pc' := 37) (tgt := 39) dX0_congruent_34 rfl rfl (fun h_ => False.elim (by first | omega | (simp (decide := true) only [au_1, nu_2, au_lt, nu_lt, aw_e, nw_e, au_s, au_n, nu_s, nu_n, au_au, nu_nu, au_nu] at h_; omega))) (fun h_ => ?_)
          exact bad _ _ (fun z => hg z.2.2.2)
      · refine w_if_eq (pc' := 29) (tgt := 37) dX0_congruent_26 rfl rfl (fun h_ => ?_) (fun h_ => False.elim (by first | omega | (simp (decide := true) only [au_1, nu_2, au_lt, nu_lt, aw_e, nw_e, au_s, au_n, nu_s, nu_n, au_au, nu_nu, au_nu] at h_; omega)))
        exact bad _ _ (fun z => hf z.2.2.1)
    · refine w_ast4 (pc' := 13) dX0_congruent_11 rfl rfl ?_
      refine w_aload_n (pc' := 14) dX0_congruent_13 rfl rfl ?_
      -- at 14: .ifnull 23
      refine w_ifnull (pc' := 17) (tgt := 37) dX0_congruent_14 rfl rfl (fun h_ => False.elim (nomatch h_)) (fun h_ => ?_)
      refine w_aload (pc' := 19) dX0_congruent_17 rfl rfl ?_
      -- at 19: .ifnull 18
      refine w_ifnull (pc' := 22) (tgt := 37) dX0_congruent_19 rfl rfl (fun h_ => ?_) (fun h_ => False.elim (h_ rfl))
      exact bad _ _ (fun z => g z.2.1)
  · refine w_ast3 (pc' := 6) dX0_congruent_5 rfl rfl ?_
    refine w_aload_n (pc' := 7) dX0_congruent_6 rfl rfl ?_
    refine w_iload_n (pc' := 8) dX0_congruent_7 rfl rfl ?_
    -- at 8: .invokevirtual 150
    refine w_callV1 (pc' := 11) (mc := 0) (ms := 0) dX0_congruent_8 rfl tX0_pattern_2 q375 rfl rfl qs4 q373 hof rfl (Nat.le_of_ble_eq_true rfl) (Nat.le_of_ble_eq_true rfl) ?_
    refine c_X0_pattern_2 hw (fun q0 q1 => w_p1 ?_) (fun g2 => w_p1 ?_)
    · refine w_ast4 (pc' := 13) dX0_congruent_11 rfl rfl ?_
      refine w_aload_n (pc' := 14) dX0_congruent_13 rfl rfl ?_
      -- at 14: .ifnull 23
      refine w_ifnull (pc' := 17) (tgt := 37) dX0_congruent_14 rfl rfl (fun h_ => ?_) (fun h_ => False.elim (h_ rfl))
      exact bad _ _ (fun z => g z.1)
    · refine w_ast4 (pc' := 13) dX0_congruent_11 rfl rfl ?_
      refine w_aload_n (pc' := 14) dX0_congruent_13 rfl rfl ?_
      -- at 14: .ifnull 23
      refine w_ifnull (pc' := 17) (tgt := 37) dX0_congruent_14 rfl rfl (fun h_ => ?_) (fun h_ => False.elim (h_ rfl))
      exact bad _ _ (fun z => g z.1)
end
