set_option maxRecDepth 10000
theorem cd_0 {c : Int} (h : c = 0) : cdat c 0 = -1 ∧ cdat c 1 = 0 ∧ cdat c 2 = 0 := by rw [h]; exact ⟨rfl, rfl, rfl⟩
theorem cd_n {c : Int} (h : c ≠ 0) : cdat c 0 = kOf c ∧ cdat c 1 = mOf c ∧ cdat c 2 = sOf c := by
  unfold cdat
  simp [h]
theorem cd_lt {K c : Int} (h : isC K c) : cdat c 0 < 0 ↔ c = 0 := by
  constructor
  · intro q
    by_cases z : c = 0
    · exact z
    · rw [(cd_n z).1] at q
      have := isC_k h z
      omega
  · intro q
    rw [(cd_0 q).1]
    decide
theorem cd_ckd (c : Int) : cdat c 0 = ckd c := rfl
theorem cd_eq {K c c' : Int} (h : isC K c) (h' : isC K c') : (cdat c 0 = cdat c' 0 ∧ cdat c 1 = cdat c' 1 ∧ cdat c 2 = cdat c' 2) ↔ c = c' := by
  constructor
  · rintro ⟨a, b, e⟩
    by_cases z : c = 0
    · by_cases z' : c' = 0
      · rw [z, z']
      · rw [(cd_0 z).1, (cd_n z').1] at a
        have := isC_k h' z'
        omega
    · by_cases z' : c' = 0
      · rw [(cd_n z).1, (cd_0 z').1] at a
        have := isC_k h z
        omega
      · rw [(cd_n z).1, (cd_n z').1] at a
        rw [(cd_n z).2.1, (cd_n z').2.1] at b
        rw [(cd_n z).2.2, (cd_n z').2.2] at e
        unfold kOf at a
        unfold mOf at b
        unfold sOf at e
        omega
  · rintro rfl
    exact ⟨rfl, rfl, rfl⟩
section
variable {d : Nat} {K : Option XV → GH → Prop} {G0 G : GH} {bc bs : Nat} {σ : MS} {w : RW}
theorem c_X0_about {x : Int} (hw : Rx σ w G) (hG : gok σ) (h : K (some (xI (aAbout σ x))) G) (hgc : σ.1 24 = 0 → σ.1 25 = 0) : tvW mX0_about (d + 1) K 0 [some (xR oR), some (xI x)] [] G bc bs := by
  have hof := hw.1
  unfold off at hof
  unfold aAbout at h
  obtain ⟨f1, o1⟩ := lst_o hw.2.1.1
  obtain ⟨f2, o2⟩ := lst_o hw.2.2.2.1.1
  obtain ⟨f3, o3⟩ := lst_o hw.2.2.2.2.2.2.1.1
  obtain ⟨f4, o4⟩ := lst_o hw.2.2.2.2.2.2.2.1.1
  refine w_iload_n (pc' := 1) dX0_about_0 rfl rfl ?_
  -- at 1: .tableswitch 136 0 8 #[51, 59, 67, 75, 83, 88, 107, 126, 131]
  by_cases x0 : x = 0
  · refine w_tableIn (tgt := 52) 0 dX0_about_1 x0 (by decide) (by decide) rfl rfl ?_
    rw [if_pos x0] at h
    refine w_aload_n (pc' := 53) dX0_about_52 rfl rfl ?_
    refine w_get 0 (pc' := 56) dX0_about_53 rfl fX0_10_0 hof rfl ?_
    -- at 56: .invokevirtual 54
    refine w_callV0 (pc' := 59) (mc := 0) (ms := 0) dX0_about_56 rfl tJ2_size q207 rfl rfl q208 q206 o1 rfl (Nat.le_of_ble_eq_true rfl) (Nat.le_of_ble_eq_true rfl) ?_
    refine c_J2_size hw.2.1.1 ?_
    refine w_p1 ?_
    refine w_ireturn dX0_about_59 rfl ?_
    exact h
  rw [if_neg x0] at h
  by_cases x1 : x = 1
  · refine w_tableIn (tgt := 60) 1 dX0_about_1 x1 (by decide) (by decide) rfl rfl ?_
    rw [if_pos x1] at h
    refine w_aload_n (pc' := 61) dX0_about_60 rfl rfl ?_
    refine w_get 1 (pc' := 64) dX0_about_61 rfl fX0_16_0 hof rfl ?_
    -- at 64: .invokevirtual 54
    refine w_callV0 (pc' := 67) (mc := 0) (ms := 0) dX0_about_64 rfl tJ2_size q207 rfl rfl q208 q206 o2 rfl (Nat.le_of_ble_eq_true rfl) (Nat.le_of_ble_eq_true rfl) ?_
    refine c_J2_size hw.2.2.2.1.1 ?_
    refine w_p1 ?_
    refine w_ireturn dX0_about_67 rfl ?_
    exact h
  rw [if_neg x1] at h
  by_cases x2 : x = 2
  · refine w_tableIn (tgt := 68) 2 dX0_about_1 x2 (by decide) (by decide) rfl rfl ?_
    rw [if_pos x2] at h
    refine w_aload_n (pc' := 69) dX0_about_68 rfl rfl ?_
    refine w_get 2 (pc' := 72) dX0_about_69 rfl fX0_19_0 hof rfl ?_
    -- at 72: .invokevirtual 54
    refine w_callV0 (pc' := 75) (mc := 0) (ms := 0) dX0_about_72 rfl tJ2_size q207 rfl rfl q208 q206 o3 rfl (Nat.le_of_ble_eq_true rfl) (Nat.le_of_ble_eq_true rfl) ?_
    refine c_J2_size hw.2.2.2.2.2.2.1.1 ?_
    refine w_p1 ?_
    refine w_ireturn dX0_about_75 rfl ?_
    exact h
  rw [if_neg x2] at h
  by_cases x3 : x = 3
  · refine w_tableIn (tgt := 76) 3 dX0_about_1 x3 (by decide) (by decide) rfl rfl ?_
    rw [if_pos x3] at h
    refine w_aload_n (pc' := 77) dX0_about_76 rfl rfl ?_
    refine w_get 3 (pc' := 80) dX0_about_77 rfl fX0_22_0 hof rfl ?_
    -- at 80: .invokevirtual 54
    refine w_callV0 (pc' := 83) (mc := 0) (ms := 0) dX0_about_80 rfl tJ2_size q207 rfl rfl q208 q206 o4 rfl (Nat.le_of_ble_eq_true rfl) (Nat.le_of_ble_eq_true rfl) ?_
    refine c_J2_size hw.2.2.2.2.2.2.2.1.1 ?_
    refine w_p1 ?_
    refine w_ireturn dX0_about_83 rfl ?_
    exact h
  rw [if_neg x3] at h
  by_cases x4 : x = 4
  · refine w_tableIn (tgt := 84) 4 dX0_about_1 x4 (by decide) (by decide) rfl rfl ?_
    rw [if_pos x4] at h
    refine w_aload_n (pc' := 85) dX0_about_84 rfl rfl ?_
    refine w_get 6 (pc' := 88) dX0_about_85 rfl fX0_135_0 hof rfl ?_
    -- at 88: .ireturn
    refine w_ireturn dX0_about_88 rfl ?_
    exact h
  rw [if_neg x4] at h
  by_cases x5 : x = 5
  · refine w_tableIn (tgt := 89) 5 dX0_about_1 x5 (by decide) (by decide) rfl rfl ?_
    rw [if_pos x5] at h
    refine w_aload_n (pc' := 90) dX0_about_89 rfl rfl ?_
    refine w_get 8 (pc' := 93) dX0_about_90 rfl fX0_203_0 hof rfl ?_
    -- at 93: .ifnonnull 7
    rcases hw.2.2.2.2.2.1 with ⟨r0, r1⟩ | ⟨r0, r1, H, W, fk, fm, fs, r2, r3, r4, r5⟩
    · rw [r1]
      refine w_ifnonnull (pc' := 96) (tgt := 100) dX0_about_93 rfl rfl (fun h_ => False.elim (h_ rfl)) (fun h_ => ?_)
      refine w_iconst (pc' := 97) dX0_about_96 rfl (by decide) ?_
      refine w_goto (tgt := 107) dX0_about_97 rfl ?_
      -- at 107: .ireturn
      refine w_ireturn dX0_about_107 rfl ?_
      rw [r0] at h
      exact h
    · rw [r1] at hof ⊢
      refine w_ifnonnull (pc' := 96) (tgt := 100) dX0_about_93 rfl rfl (fun h_ => ?_) (fun h_ => False.elim (nomatch h_))
      refine w_aload_n (pc' := 101) dX0_about_100 rfl rfl ?_
      refine w_get 8 (pc' := 104) dX0_about_101 rfl fX0_203_0 hof rfl ?_
      -- at 104: .invokevirtual 219
      refine w_callV0 (pc' := 107) (mc := 0) (ms := 0) dX0_about_104 rfl tX7_rows q581 rfl rfl q582 q604 r4.1 rfl (Nat.le_of_ble_eq_true rfl) (Nat.le_of_ble_eq_true rfl) ?_
      refine c_X7_rows r4 ?_
      refine w_p1 ?_
      refine w_ireturn dX0_about_107 rfl ?_
      rw [r2]
      exact h
  rw [if_neg x5] at h
  by_cases x6 : x = 6
  · refine w_tableIn (tgt := 108) 6 dX0_about_1 x6 (by decide) (by decide) rfl rfl ?_
    rw [if_pos x6] at h
    refine w_aload_n (pc' := 109) dX0_about_108 rfl rfl ?_
    refine w_get 8 (pc' := 112) dX0_about_109 rfl fX0_203_0 hof rfl ?_
    -- at 112: .ifnonnull 7
    rcases hw.2.2.2.2.2.1 with ⟨r0, r1⟩ | ⟨r0, r1, H, W, fk, fm, fs, r2, r3, r4, r5⟩
    · rw [r1]
      refine w_ifnonnull (pc' := 115) (tgt := 119) dX0_about_112 rfl rfl (fun h_ => False.elim (h_ rfl)) (fun h_ => ?_)
      refine w_iconst (pc' := 116) dX0_about_115 rfl (by decide) ?_
      refine w_goto (tgt := 126) dX0_about_116 rfl ?_
      -- at 126: .ireturn
      refine w_ireturn dX0_about_126 rfl ?_
      rw [hgc r0] at h
      exact h
    · rw [r1] at hof ⊢
      refine w_ifnonnull (pc' := 115) (tgt := 119) dX0_about_112 rfl rfl (fun h_ => ?_) (fun h_ => False.elim (nomatch h_))
      refine w_aload_n (pc' := 120) dX0_about_119 rfl rfl ?_
      refine w_get 8 (pc' := 123) dX0_about_120 rfl fX0_203_0 hof rfl ?_
      -- at 123: .invokevirtual 221
      have hg := hG.1
      refine w_callV0 (pc' := 126) (mc := 0) (ms := 0) dX0_about_123 rfl tX7_columns q585 rfl rfl q586 q605 r4.1 rfl (Nat.le_of_ble_eq_true rfl) (Nat.le_of_ble_eq_true rfl) ?_
      refine c_X7_columns r4 (by omega) ?_
      refine w_p1 ?_
      refine w_ireturn dX0_about_126 rfl ?_
      rw [r3]
      exact h
  rw [if_neg x6] at h
  by_cases x7 : x = 7
  · refine w_tableIn (tgt := 127) 7 dX0_about_1 x7 (by decide) (by decide) rfl rfl ?_
    rw [if_pos x7] at h
    refine w_aload_n (pc' := 128) dX0_about_127 rfl rfl ?_
    refine w_get 5 (pc' := 131) dX0_about_128 rfl fX0_122_0 hof rfl ?_
    -- at 131: .ireturn
    refine w_ireturn dX0_about_131 rfl ?_
    exact h
  rw [if_neg x7] at h
  by_cases x8 : x = 8
  · refine w_tableIn (tgt := 132) 8 dX0_about_1 x8 (by decide) (by decide) rfl rfl ?_
    rw [if_pos x8] at h
    refine w_aload_n (pc' := 133) dX0_about_132 rfl rfl ?_
    refine w_get 7 (pc' := 136) dX0_about_133 rfl fX0_367_0 hof rfl ?_
    -- at 136: .ireturn
    refine w_ireturn dX0_about_136 rfl ?_
    exact h
  rw [if_neg x8] at h
  refine w_tableOut (tgt := 137) dX0_about_1 rfl (by omega) ?_
  refine w_iconst (pc' := 138) dX0_about_137 rfl (by decide) ?_
  -- at 138: .ireturn
  refine w_ireturn dX0_about_138 rfl ?_
  exact h
theorem c_X0_count {p kd : Int} (hw : Rx σ w G) (hR : rok σ) (hP : pok σ) (h : K (some (xI (aCount σ p kd))) G) : tvW mX0_count (d + 4) K 0 [some (xR oR), some (xI p), some (xI kd), none, none, none, none, none, none, none] [] G bc bs := by
  have hof := hw.1
  unfold off at hof
  unfold aCount at h
  have bad : ∀ o : Option Rl, ¬ ((0 ≤ p ∧ p < σ.1 12) ∧ (kd = -1 ∨ 0 ≤ kd ∧ kd < σ.1 5)) → tvW mX0_count (d + 4) K 23 [some (xR oR), some (xI p), some (xI kd), some (xO o), none, none, none, none, none, none] [] G bc bs := by
    intro o q
    rw [ic_f q] at h
    refine w_iconst (pc' := 24) dX0_count_23 rfl (by decide) ?_
    -- at 24: .ireturn
    refine w_ireturn dX0_count_24 rfl ?_
    exact h
  have main : (0 ≤ p ∧ p < σ.1 12) → (kd = -1 ∨ 0 ≤ kd ∧ kd < σ.1 5) → tvW mX0_count (d + 4) K 25 [some (xR oR), some (xI p), some (xI kd), some (xR (pO p)), none, none, none, none, none, none] [] G bc bs := by
    intro hp hk
    rw [ic_t ⟨hp, hk⟩] at h
    have hM := (hP.2 p hp.1 hp.2).1
    have hp1 := hP.1
    obtain ⟨hPo, -⟩ := hw.2.2.2.1.2 p hp.1 hp.2
    have hpr := Rx_prw hw hR hP hp.1 hp.2
    obtain ⟨lf, hl⟩ := lst_o hpr.1
    refine w_iconst (pc' := 26) dX0_count_25 rfl (by decide) ?_
    refine w_ist4 (pc' := 28) dX0_count_26 rfl rfl ?_
    refine w_iconst (pc' := 29) dX0_count_28 rfl (by decide) ?_
    refine w_ist5 (pc' := 31) dX0_count_29 rfl rfl ?_
    -- at 31: .iload 5
    refine up (T := fun i => ∀ x5 x6 x7 x8 : Option XV, tvW mX0_count (d + 4) K 31 [some (xR oR), some (xI p), some (xI kd), some (xR (pO p)), some (xI (sm (fun i => cnt1 σ p kd i) i)), some (xI i), x5, x6, x7, x8] [] G bc bs) (σ.2 11 p) hM.1 (fun x5 x6 x7 x8 => ?_) (fun i i0 i1 ih x5 x6 x7 x8 => ?_) _ _ _ _
    · refine w_iload (pc' := 33) dX0_count_31 rfl rfl ?_
      refine w_aload_n (pc' := 34) dX0_count_33 rfl rfl ?_
      refine w_get 0 (pc' := 37) dX0_count_34 rfl fX0_140_3 hPo rfl ?_
      -- at 37: .invokevirtual 54
      refine w_callV0 (pc' := 40) (mc := 0) (ms := 0) dX0_count_37 rfl tJ2_size q207 rfl rfl q208 q206 hl rfl (Nat.le_of_ble_eq_true rfl) (Nat.le_of_ble_eq_true rfl) ?_
      refine c_J2_size hpr.1 ?_
      refine w_p1 ?_
      refine w_icmp_ge (pc' := 43) (tgt := 110) dX0_count_40 rfl rfl (fun h_ => ?_) (fun h_ => False.elim (by first | omega | (simp (decide := true) only [au_1, nu_2, au_lt, nu_lt, aw_e, nw_e, au_s, au_n, nu_s, nu_n, au_au, nu_nu, au_nu] at h_; omega)))
      refine w_iload (pc' := 112) dX0_count_110 rfl rfl ?_
      -- at 112: .ireturn
      refine w_ireturn dX0_count_112 rfl ?_
      exact h
    · obtain ⟨b1r, b2, b3, b4, b5, b6⟩ := prow hR hP hp i0 i1
      have hS := sm_r (f := fun i => cnt1 σ p kd i) 60 i0 (fun i' q0 q1 => by
        have hq := (prow hR hP hp q0 (show i' < σ.2 11 p by omega)).2.1
        have := sm_r (f := fun k => b1 (ckd (σ.2 8 (60 * rw_ σ p i' + k)) = kd)) 1 hq.1 (fun _ _ _ => b1_r _)
        unfold cnt1
        omega)
      rw [sm_s i0] at ih
      generalize sm (fun i => cnt1 σ p kd i) i = S at *
      unfold cnt1 at ih
      obtain ⟨⟨hro, n, fk, fm, fs, hn, ak, am, as, hc⟩, hL, hO⟩ := hpr.2 i i0 i1
      have hn : (n : Int) = (σ.2 6 (rw_ σ p i)) := hn
      refine w_iload (pc' := 33) dX0_count_31 rfl rfl ?_
      refine w_aload_n (pc' := 34) dX0_count_33 rfl rfl ?_
      refine w_get 0 (pc' := 37) dX0_count_34 rfl fX0_140_3 hPo rfl ?_
      -- at 37: .invokevirtual 54
      refine w_callV0 (pc' := 40) (mc := 0) (ms := 0) dX0_count_37 rfl tJ2_size q207 rfl rfl q208 q206 hl rfl (Nat.le_of_ble_eq_true rfl) (Nat.le_of_ble_eq_true rfl) ?_
      refine c_J2_size hpr.1 ?_
      refine w_p1 ?_
      refine w_icmp_ge (pc' := 43) (tgt := 110) dX0_count_40 rfl rfl (fun h_ => False.elim (by first | omega | (simp (decide := true) only [au_1, nu_2, au_lt, nu_lt, aw_e, nw_e, au_s, au_n, nu_s, nu_n, au_au, nu_nu, au_nu] at h_; omega))) (fun h_ => ?_)
      refine w_aload_n (pc' := 44) dX0_count_43 rfl rfl ?_
      refine w_get 0 (pc' := 47) dX0_count_44 rfl fX0_140_3 hPo rfl ?_
      refine w_iload (pc' := 49) dX0_count_47 rfl rfl ?_
      -- at 49: .invokevirtual 58
      refine w_callV1 (pc' := 52) (mc := 0) (ms := 0) dX0_count_49 rfl tJ2_get q211 rfl rfl q212 q210 hl rfl (Nat.le_of_ble_eq_true rfl) (Nat.le_of_ble_eq_true rfl) ?_
      refine c_J2_get hpr.1 ⟨i0, i1⟩ ?_
      refine w_p1 ?_
      refine w_cast (pc' := 55) dX0_count_52 rfl hro rfl q425 ?_
      refine w_get 0 (pc' := 58) dX0_count_55 rfl fX0_187_5 hro rfl ?_
      refine w_ast6 (pc' := 60) dX0_count_58 rfl rfl ?_
      refine w_aload (pc' := 62) dX0_count_60 rfl rfl ?_
      refine w_alen (pc' := 63) dX0_count_62 rfl ak ?_
      refine w_ist7 (pc' := 65) dX0_count_63 rfl rfl ?_
      refine w_iconst (pc' := 66) dX0_count_65 rfl (by decide) ?_
      refine w_ist8 (pc' := 68) dX0_count_66 rfl rfl ?_
      -- at 68: .iload 8
      rw [hn]
      refine w_L (L' := [some (xR oR), some (xI p), some (xI kd), some (xR (pO p)), some (xI (S + sm (fun k => b1 (ckd (σ.2 8 (60 * rw_ σ p i + k)) = kd)) 0)), some (xI i), some (xR (rK (rw_ σ p i))), some (xI (σ.2 6 (rw_ σ p i))), some (xI 0), x8]) (by rw [sm_0, Int.add_zero]) ?_
      refine up (T := fun k => ∀ x8, tvW mX0_count (d + 4) K 68 [some (xR oR), some (xI p), some (xI kd), some (xR (pO p)), some (xI (S + sm (fun k => b1 (ckd (σ.2 8 (60 * rw_ σ p i + k)) = kd)) k)), some (xI i), some (xR (rK (rw_ σ p i))), some (xI (σ.2 6 (rw_ σ p i))), some (xI k), x8] [] G bc bs) (σ.2 6 (rw_ σ p i)) b2.1 (fun x8 => ?_) (fun k k0 k1 ihk x8 => ?_) _
      · refine w_iload (pc' := 70) dX0_count_68 rfl rfl ?_
        refine w_iload (pc' := 72) dX0_count_70 rfl rfl ?_
        -- at 72: .if_icmp .ge 32
        refine w_icmp_ge (pc' := 75) (tgt := 104) dX0_count_72 rfl rfl (fun h_ => ?_) (fun h_ => False.elim (by first | omega | (simp (decide := true) only [au_1, nu_2, au_lt, nu_lt, aw_e, nw_e, au_s, au_n, nu_s, nu_n, au_au, nu_nu, au_nu] at h_; omega)))
        refine w_inc5 (pc' := 107) dX0_count_104 rfl rfl ⟨by first | omega | (simp (decide := true) only [au_1, nu_2, au_lt, nu_lt, aw_e, nw_e, au_s, au_n, nu_s, nu_n, au_au, nu_nu, au_nu]; omega), by first | omega | (simp (decide := true) only [au_1, nu_2, au_lt, nu_lt, aw_e, nw_e, au_s, au_n, nu_s, nu_n, au_au, nu_nu, au_nu]; omega)⟩ ?_
        refine w_goto (tgt := 31) dX0_count_107 rfl ?_
        -- at 31: .iload 5
        exact ih _ _ _ _
      · have hk' := sm_r (f := fun k => b1 (ckd (σ.2 8 (60 * rw_ σ p i + k)) = kd)) 1 k0 (fun _ _ _ => b1_r _)
        rw [sm_s k0, ← Int.add_assoc] at ihk
        have hT : 0 ≤ S + sm (fun k => b1 (ckd (σ.2 8 (60 * rw_ σ p i + k)) = kd)) k ∧ S + sm (fun k => b1 (ckd (σ.2 8 (60 * rw_ σ p i + k)) = kd)) k ≤ 10000 := by omega
        generalize S + sm (fun k => b1 (ckd (σ.2 8 (60 * rw_ σ p i + k)) = kd)) k = T at *
        have hck := (hc k k0 k1).1
        rw [cd_ckd] at hck
        refine w_iload (pc' := 70) dX0_count_68 rfl rfl ?_
        refine w_iload (pc' := 72) dX0_count_70 rfl rfl ?_
        -- at 72: .if_icmp .ge 32
        refine w_icmp_ge (pc' := 75) (tgt := 104) dX0_count_72 rfl rfl (fun h_ => False.elim (by first | omega | (simp (decide := true) only [au_1, nu_2, au_lt, nu_lt, aw_e, nw_e, au_s, au_n, nu_s, nu_n, au_au, nu_nu, au_nu] at h_; omega))) (fun h_ => ?_)
        refine w_aload (pc' := 77) dX0_count_75 rfl rfl ?_
        refine w_iload (pc' := 79) dX0_count_77 rfl rfl ?_
        refine w_bald (pc' := 80) dX0_count_79 rfl ak k0 (by omega) ?_
        -- at 80: .istore 9
        rw [hck]
        refine w_ist9 (pc' := 82) dX0_count_80 rfl rfl ?_
        refine w_iload (pc' := 84) dX0_count_82 rfl rfl ?_
        refine w_iload (pc' := 86) dX0_count_84 rfl rfl ?_
        refine w_iload_n (pc' := 87) dX0_count_86 rfl rfl ?_
        -- at 87: .if_icmp .ne 7
        refine w_icmp_ne (pc' := 90) (tgt := 94) dX0_count_87 rfl rfl (fun g2 => ?_) (fun g2 => ?_)
        · rw [b1_f g2] at ihk
          refine w_iconst (pc' := 95) dX0_count_94 rfl (by decide) ?_
          refine w_iadd (pc' := 96) dX0_count_95 rfl ⟨by first | omega | (simp (decide := true) only [au_1, nu_2, au_lt, nu_lt, aw_e, nw_e, au_s, au_n, nu_s, nu_n, au_au, nu_nu, au_nu]; omega), by first | omega | (simp (decide := true) only [au_1, nu_2, au_lt, nu_lt, aw_e, nw_e, au_s, au_n, nu_s, nu_n, au_au, nu_nu, au_nu]; omega)⟩ ?_
          refine w_ist4 (pc' := 98) dX0_count_96 rfl rfl ?_
          refine w_inc8 (pc' := 101) dX0_count_98 rfl rfl ⟨by first | omega | (simp (decide := true) only [au_1, nu_2, au_lt, nu_lt, aw_e, nw_e, au_s, au_n, nu_s, nu_n, au_au, nu_nu, au_nu]; omega), by first | omega | (simp (decide := true) only [au_1, nu_2, au_lt, nu_lt, aw_e, nw_e, au_s, au_n, nu_s, nu_n, au_au, nu_nu, au_nu]; omega)⟩ ?_
          refine w_goto (tgt := 68) dX0_count_101 rfl ?_
          -- at 68: .iload 8
          exact ihk _
        · rw [b1_t g2] at ihk
          refine w_iconst (pc' := 91) dX0_count_90 rfl (by decide) ?_
          refine w_goto (tgt := 95) dX0_count_91 rfl ?_
          refine w_iadd (pc' := 96) dX0_count_95 rfl ⟨by first | omega | (simp (decide := true) only [au_1, nu_2, au_lt, nu_lt, aw_e, nw_e, au_s, au_n, nu_s, nu_n, au_au, nu_nu, au_nu]; omega), by first | omega | (simp (decide := true) only [au_1, nu_2, au_lt, nu_lt, aw_e, nw_e, au_s, au_n, nu_s, nu_n, au_au, nu_nu, au_nu]; omega)⟩ ?_
          refine w_ist4 (pc' := 98) dX0_count_96 rfl rfl ?_
          refine w_inc8 (pc' := 101) dX0_count_98 rfl rfl ⟨by first | omega | (simp (decide := true) only [au_1, nu_2, au_lt, nu_lt, aw_e, nw_e, au_s, au_n, nu_s, nu_n, au_au, nu_nu, au_nu]; omega), by first | omega | (simp (decide := true) only [au_1, nu_2, au_lt, nu_lt, aw_e, nw_e, au_s, au_n, nu_s, nu_n, au_au, nu_nu, au_nu]; omega)⟩ ?_
          refine w_goto (tgt := 68) dX0_count_101 rfl ?_
          -- at 68: .iload 8
          exact ihk _
  refine w_aload_n (pc' := 1) dX0_count_0 rfl rfl ?_
  refine w_iload_n (pc' := 2) dX0_count_1 rfl rfl ?_
  -- at 2: .invokevirtual 150
  refine w_callV1 (pc' := 5) (mc := 0) (ms := 0) dX0_count_2 rfl tX0_pattern_2 q375 rfl rfl qs4 q373 hof rfl (Nat.le_of_ble_eq_true rfl) (Nat.le_of_ble_eq_true rfl) ?_
  refine c_X0_pattern_2 hw (fun p0 p1 => w_p1 ?_) (fun g => w_p1 ?_)
  · refine w_ast3 (pc' := 6) dX0_count_5 rfl rfl ?_
    refine w_aload_n (pc' := 7) dX0_count_6 rfl rfl ?_
    -- at 7: .ifnull 16
    refine w_ifnull (pc' := 10) (tgt := 23) dX0_count_7 rfl rfl (fun h_ => False.elim (nomatch h_)) (fun h_ => ?_)
    refine w_iload_n (pc' := 11) dX0_count_10 rfl rfl ?_
    refine w_iconst (pc' := 12) dX0_count_11 rfl (by decide) ?_
    -- at 12: .if_icmp .eq 13
    refine w_icmp_eq (pc' := 15) (tgt := 25) dX0_count_12 rfl rfl (fun g => ?_) (fun g => ?_)
    · exact main ⟨p0, p1⟩ (Or.inl g)
    · refine w_aload_n (pc' := 16) dX0_count_15 rfl rfl ?_
      refine w_iload_n (pc' := 17) dX0_count_16 rfl rfl ?_
      -- at 17: .invokevirtual 102
      refine w_callV1 (pc' := 20) (mc := 0) (ms := 0) dX0_count_17 rfl tX0_isKind q321 rfl rfl qs3 q319 hof rfl (Nat.le_of_ble_eq_true rfl) (Nat.le_of_ble_eq_true rfl) ?_
      refine c_X0_isKind hw (fun k0 k1 => w_p1 ?_) (fun g2 => w_p1 ?_)
      · refine w_if_ne (pc' := 23) (tgt := 25) dX0_count_20 rfl rfl (fun h_ => ?_) (fun h_ => False.elim (by first | omega | (simp (decide := true) only [au_1, nu_2, au_lt, nu_lt, aw_e, nw_e, au_s, au_n, nu_s, nu_n, au_au, nu_nu, au_nu] at h_; omega)))
        exact main ⟨p0, p1⟩ (Or.inr ⟨k0, k1⟩)
      · refine w_if_ne (pc' := 23) (tgt := 25) dX0_count_20 rfl rfl (fun h_ => False.elim (by first | omega | (simp (decide := true) only [au_1, nu_2, au_lt, nu_lt, aw_e, nw_e, au_s, au_n, nu_s, nu_n, au_au, nu_nu, au_nu] at h_; omega))) (fun h_ => ?_)
        exact bad _ (by omega)
  · refine w_ast3 (pc' := 6) dX0_count_5 rfl rfl ?_
    refine w_aload_n (pc' := 7) dX0_count_6 rfl rfl ?_
    -- at 7: .ifnull 16
    refine w_ifnull (pc' := 10) (tgt := 23) dX0_count_7 rfl rfl (fun h_ => ?_) (fun h_ => False.elim (h_ rfl))
    exact bad _ (fun q => g q.1)
theorem c_X0_isAlike {q q' l l' o o' x z KK : Int} {C C' : Int → Int} (hr : row G q l o C) (hr' : row G q' l' o' C') (x0 : 0 ≤ x) (x1 : x < l) (z0 : 0 ≤ z) (z1 : z < l') (c1 : isC KK (C x)) (c2 : isC KK (C' z)) (h1 : C x = C' z → K (some (xI 1)) G) (h0 : C x ≠ C' z → K (some (xI 0)) G) : tvW mX0_isAlike d K 0 [some (xR (rO q)), some (xI x), some (xR (rO q')), some (xI z)] [] G bc bs := by
  obtain ⟨n, fk, fm, fs, hn, ak, am, as, ck, cm, cs⟩ := row_at hr x0 x1
  obtain ⟨n', fk', fm', fs', hn', ak', am', as', ck', cm', cs'⟩ := row_at hr' z0 z1
  have hO := hr.1
  have hO' := hr'.1
  have e := cd_eq c1 c2
  have no : ¬ (C x = C' z) → tvW mX0_isAlike d K 49 [some (xR (rO q)), some (xI x), some (xR (rO q')), some (xI z)] [] G bc bs := by
    intro g
    refine w_iconst (pc' := 50) dX0_isAlike_49 rfl (by decide) ?_
    -- at 50: .ireturn
    refine w_zreturn dX0_isAlike_50 rfl (by first | exact Or.inl rfl | exact Or.inr rfl | omega) ?_
    exact h0 g
  refine w_aload_n (pc' := 1) dX0_isAlike_0 rfl rfl ?_
  refine w_get 0 (pc' := 4) dX0_isAlike_1 rfl fX0_187_5 hO rfl ?_
  refine w_iload_n (pc' := 5) dX0_isAlike_4 rfl rfl ?_
  refine w_bald (pc' := 6) dX0_isAlike_5 rfl ak (by omega) (by omega) ?_
  refine w_aload_n (pc' := 7) dX0_isAlike_6 rfl rfl ?_
  refine w_get 0 (pc' := 10) dX0_isAlike_7 rfl fX0_187_5 hO' rfl ?_
  refine w_iload_n (pc' := 11) dX0_isAlike_10 rfl rfl ?_
  refine w_bald (pc' := 12) dX0_isAlike_11 rfl ak' (by omega) (by omega) ?_
  -- at 12: .if_icmp .ne 37
  rw [ck, ck']
  refine w_icmp_ne (pc' := 15) (tgt := 49) dX0_isAlike_12 rfl rfl (fun g => ?_) (fun g => ?_)
  · exact no (fun z => g (e.mpr z).1)
  · refine w_aload_n (pc' := 16) dX0_isAlike_15 rfl rfl ?_
    refine w_get 1 (pc' := 19) dX0_isAlike_16 rfl fX0_194_5 hO rfl ?_
    refine w_iload_n (pc' := 20) dX0_isAlike_19 rfl rfl ?_
    refine w_bald (pc' := 21) dX0_isAlike_20 rfl am (by omega) (by omega) ?_
    refine w_aload_n (pc' := 22) dX0_isAlike_21 rfl rfl ?_
    refine w_get 1 (pc' := 25) dX0_isAlike_22 rfl fX0_194_5 hO' rfl ?_
    refine w_iload_n (pc' := 26) dX0_isAlike_25 rfl rfl ?_
    refine w_bald (pc' := 27) dX0_isAlike_26 rfl am' (by omega) (by omega) ?_
    -- at 27: .if_icmp .ne 22
    rw [cm, cm']
    refine w_icmp_ne (pc' := 30) (tgt := 49) dX0_isAlike_27 rfl rfl (fun g2 => ?_) (fun g2 => ?_)
    · exact no (fun z => g2 (e.mpr z).2.1)
    · refine w_aload_n (pc' := 31) dX0_isAlike_30 rfl rfl ?_
      refine w_get 2 (pc' := 34) dX0_isAlike_31 rfl fX0_190_5 hO rfl ?_
      refine w_iload_n (pc' := 35) dX0_isAlike_34 rfl rfl ?_
      refine w_sald (pc' := 36) dX0_isAlike_35 rfl as (by omega) (by omega) ?_
      refine w_aload_n (pc' := 37) dX0_isAlike_36 rfl rfl ?_
      refine w_get 2 (pc' := 40) dX0_isAlike_37 rfl fX0_190_5 hO' rfl ?_
      refine w_iload_n (pc' := 41) dX0_isAlike_40 rfl rfl ?_
      refine w_sald (pc' := 42) dX0_isAlike_41 rfl as' (by omega) (by omega) ?_
      -- at 42: .if_icmp .ne 7
      rw [cs, cs']
      refine w_icmp_ne (pc' := 45) (tgt := 49) dX0_isAlike_42 rfl rfl (fun g3 => ?_) (fun g3 => ?_)
      · exact no (fun z => g3 (e.mpr z).2.2)
      · refine w_iconst (pc' := 46) dX0_isAlike_45 rfl (by decide) ?_
        refine w_goto (tgt := 50) dX0_isAlike_46 rfl ?_
        -- at 50: .ireturn
        refine w_zreturn dX0_isAlike_50 rfl (by first | exact Or.inl rfl | exact Or.inr rfl | omega) ?_
        exact h1 (e.mp ⟨g, g2, g3⟩)
end
