set_option maxRecDepth 10000
section
variable {d : Nat} {K : Option XV → GH → Prop} {G0 G : GH} {bc bs : Nat} {σ : MS}
theorem c_X7_moved {b b1 m cm rm md : Int} {rg : Option Rl} {H W : Nat} {fk fm fs : Int → Int → Int} (hb : blo G b H W fk fm fs) (ho : off G cm rm md rg) (hK : Rkin σ G) (hk : kok σ) (hm : 0 ≤ m ∧ m < 8) (hH : 1 ≤ H ∧ H ≤ 20) (hW : 1 ≤ W ∧ W ≤ 20)
    (hc : ∀ i j : Int, 0 ≤ i → i < H → 0 ≤ j → j < W → (-2 ≤ fk i j ∧ fk i j < σ.1 5) ∧ (0 ≤ fm i j ∧ fm i j < 8) ∧ (-32768 ≤ fs i j ∧ fs i j ≤ 32767)) (hne : b ≠ b1) (hn : ∀ (t : Nat) (z : Int), 33 ≤ t → t < 38 → G (t, b1, z) = none)
    (h : ∀ (G' : GH) (H' W' : Nat) (gk gm gs : Int → Int → Int), (H' : Int) = mvR m H W → (W' : Int) = mvC m H W → bfr b1 G G' → blo G' b1 H' W' gk gm gs → (∀ y x : Int, 0 ≤ y → y < H' → 0 ≤ x → x < W' → gk y x = fk (cfI m H y x) (cfJ m W y x) ∧ gm y x = (if fk (cfI m H y x) (cfJ m W y x) < 0 then 0 else lie (σ.2 3 (fk (cfI m H y x) (cfJ m W y x))) (σ.2 1 (fk (cfI m H y x) (cfJ m W y x))) (thn (fm (cfI m H y x) (cfJ m W y x)) m)) ∧ gs y x = fs (cfI m H y x) (cfJ m W y x)) → K (some (xR (33, b1, 0))) G') :
    tvW mX7_moved (d + 3) K 0 [some (xR (33, b, 0)), some (xI m), some (xR oR), none, none, none, none, none, none, none, none, none] [] G 64 1263 := by
  have hb0 := hb
  have hn33 := hn 33 0 (by omega) (by omega)
  obtain ⟨fsl, hL⟩ := lst_o hK.1
  have e1 := bAnd_1 m
  -- the loops, from a new block on
  have main : ∀ (od : Int) (H' W' : Nat), (H' : Int) = mvR m H W → (W' : Int) = mvC m H W → H' ≤ 20 → W' ≤ 20 → 1 ≤ H' → 1 ≤ W' → ∀ (G1 : GH) (gk gm gs : Int → Int → Int), bfr b1 G G1 → blo G1 b1 H' W' gk gm gs → ∀ v8 v9 v10 v11 : Option XV, tvW mX7_moved (d + 3) K 59 [some (xR (33, b, 0)), some (xI m), some (xR oR), some (xI od), some (xI H), some (xI W), some (xR (33, b1, 0)), some (xI 0), v8, v9, v10, v11] [] G1 0 0 := by
    intro od H' W' eH eW lH lW pH pW G1 gk gm gs fr1 b1' v8 v9 v10 v11
    have hst : ∃ S : Int → Int → (Int → Int → Int) → (Int → Int → Int) → (Int → Int → Int) → Prop, S = fun y x gk gm gs => ∀ y' x' : Int, 0 ≤ y' → y' < H' → 0 ≤ x' → x' < W' → (y' < y ∨ y' = y ∧ x' < x) → gk y' x' = fk (cfI m H y' x') (cfJ m W y' x') ∧ gm y' x' = (if fk (cfI m H y' x') (cfJ m W y' x') < 0 then 0 else lie (σ.2 3 (fk (cfI m H y' x') (cfJ m W y' x'))) (σ.2 1 (fk (cfI m H y' x') (cfJ m W y' x'))) (thn (fm (cfI m H y' x') (cfJ m W y' x')) m)) ∧ gs y' x' = fs (cfI m H y' x') (cfJ m W y' x') := ⟨_, rfl⟩
    obtain ⟨S, hS⟩ := hst
    refine up (T := fun y => 0 ≤ y → ∀ v8 v9 v10 v11 : Option XV, ∀ (G1 : GH) (gk gm gs : Int → Int → Int), bfr b1 G G1 → blo G1 b1 H' W' gk gm gs → S y 0 gk gm gs → tvW mX7_moved (d + 3) K 59 [some (xR (33, b, 0)), some (xI m), some (xR oR), some (xI od), some (xI H), some (xI W), some (xR (33, b1, 0)), some (xI y), v8, v9, v10, v11] [] G1 0 0) (H' : Int) (by omega) ?_ ?_ (by omega) v8 v9 v10 v11 G1 gk gm gs fr1 b1' (by rw [hS]; intro y' x' q1 q2 q3 q4 q5; omega)
    · intro _ v8 v9 v10 v11 G1 gk gm gs fr1 b1' s
      refine w_iload (pc' := 61) dX7_moved_59 rfl rfl ?_
      refine w_aload (pc' := 63) dX7_moved_61 rfl rfl ?_
      -- at 63: .invokevirtual 24
      refine w_callV0 (pc' := 66) (mc := 0) (ms := 0) dX7_moved_63 rfl tX7_rows q581 rfl rfl q582 q580 b1'.1 rfl (Nat.le_of_ble_eq_true rfl) (Nat.le_of_ble_eq_true rfl) ?_
      refine c_X7_rows b1' ?_
      refine w_p1 ?_
      refine w_icmp_ge (pc' := 69) (tgt := 215) dX7_moved_66 rfl rfl (fun h_ => ?_) (fun h_ => False.elim (by first | omega | (simp (decide := true) only [au_1, nu_2, au_lt, nu_lt, aw_e, nw_e, au_s, au_n, nu_s, nu_n, au_au, nu_nu, au_nu] at h_; omega)))
      refine w_aload (pc' := 217) dX7_moved_215 rfl rfl ?_
      -- at 217: .areturn
      refine w_areturn dX7_moved_217 rfl ?_
      rw [hS] at s
      exact h G1 H' W' gk gm gs eH eW fr1 b1' (fun y x y0 y1 x0 x1 => s y x y0 y1 x0 x1 (Or.inl y1))
    · intro y y0 y1 ih _ v8 v9 v10 v11 G1 gk gm gs fr1 b1' s
      refine w_iload (pc' := 61) dX7_moved_59 rfl rfl ?_
      refine w_aload (pc' := 63) dX7_moved_61 rfl rfl ?_
      -- at 63: .invokevirtual 24
      refine w_callV0 (pc' := 66) (mc := 0) (ms := 0) dX7_moved_63 rfl tX7_rows q581 rfl rfl q582 q580 b1'.1 rfl (Nat.le_of_ble_eq_true rfl) (Nat.le_of_ble_eq_true rfl) ?_
      refine c_X7_rows b1' ?_
      refine w_p1 ?_
      refine w_icmp_ge (pc' := 69) (tgt := 215) dX7_moved_66 rfl rfl (fun h_ => False.elim (by first | omega | (simp (decide := true) only [au_1, nu_2, au_lt, nu_lt, aw_e, nw_e, au_s, au_n, nu_s, nu_n, au_au, nu_nu, au_nu] at h_; omega))) (fun h_ => ?_)
      refine w_iconst (pc' := 70) dX7_moved_69 rfl (by decide) ?_
      refine w_ist8 (pc' := 72) dX7_moved_70 rfl rfl ?_
      -- at 72: .iload 8
      refine up (T := fun x => 0 ≤ x → ∀ v9 v10 v11 : Option XV, ∀ (G1 : GH) (gk gm gs : Int → Int → Int), bfr b1 G G1 → blo G1 b1 H' W' gk gm gs → S y x gk gm gs → tvW mX7_moved (d + 3) K 72 [some (xR (33, b, 0)), some (xI m), some (xR oR), some (xI od), some (xI H), some (xI W), some (xR (33, b1, 0)), some (xI y), some (xI x), v9, v10, v11] [] G1 0 0) (W' : Int) (by omega) ?_ ?_ (by omega) v9 v10 v11 G1 gk gm gs fr1 b1' s
      · intro _ v9 v10 v11 G1 gk gm gs fr1 b1' s
        refine w_iload (pc' := 74) dX7_moved_72 rfl rfl ?_
        refine w_aload (pc' := 76) dX7_moved_74 rfl rfl ?_
        -- at 76: .invokevirtual 28
        refine w_callV0 (pc' := 79) (mc := 0) (ms := 0) dX7_moved_76 rfl tX7_columns q585 rfl rfl q586 q584 b1'.1 rfl (Nat.le_of_ble_eq_true rfl) (Nat.le_of_ble_eq_true rfl) ?_
        refine c_X7_columns b1' (by omega) ?_
        refine w_p1 ?_
        refine w_icmp_ge (pc' := 82) (tgt := 209) dX7_moved_79 rfl rfl (fun h_ => ?_) (fun h_ => False.elim (by first | omega | (simp (decide := true) only [au_1, nu_2, au_lt, nu_lt, aw_e, nw_e, au_s, au_n, nu_s, nu_n, au_au, nu_nu, au_nu] at h_; omega)))
        refine w_inc7 (pc' := 212) dX7_moved_209 rfl rfl ⟨by first | omega | (simp (decide := true) only [au_1, nu_2, au_lt, nu_lt, aw_e, nw_e, au_s, au_n, nu_s, nu_n, au_au, nu_nu, au_nu]; omega), by first | omega | (simp (decide := true) only [au_1, nu_2, au_lt, nu_lt, aw_e, nw_e, au_s, au_n, nu_s, nu_n, au_au, nu_nu, au_nu]; omega)⟩ ?_
        refine w_goto (tgt := 59) dX7_moved_212 rfl ?_
        -- at 59: .iload 7
        refine ih (by omega) _ _ _ _ G1 gk gm gs fr1 b1' ?_
        rw [hS] at s ⊢
        intro y' x' q1 q2 q3 q4 q5
        exact s y' x' q1 q2 q3 q4 (by omega)
      · intro x x0 x1 ihx _ v9 v10 v11 G1 gk gm gs fr1 b1' s
        have hcf := cf_r (r := (H : Int)) (c := (W : Int)) hm y0 (by omega) x0 (show x < mvC m H W by omega)
        obtain ⟨ci0, ci1⟩ := hcf.1
        obtain ⟨cj0, cj1⟩ := hcf.2
        obtain ⟨hr1, hr2, hr3⟩ := hc _ _ ci0 ci1 cj0 cj1
        have hb : blo G1 b H W fk fm fs := blo_fr (fun q q1 q2 => fr1 q (fun z => hne (q2.symm.trans z.2))) hb0
        have ho : off G1 cm rm md rg := (fr1 _ (by simp only []; omega)).trans ho
        have hL := (fr1 _ (by simp only []; omega)).trans hL
        have hK : Rkin σ G1 := Rkin_fr (fun q hq => fr1 q (by omega)) hK
        obtain ⟨p1, p2, p3, p4, p5⟩ := hb
        obtain ⟨⟨ga, ga1, ga2⟩, ⟨gb, gb1, gb2⟩, ⟨gc, gc1, gc2⟩⟩ := p5 _ ci0 ci1
        have b1'' := b1'
        obtain ⟨n1, n2, n3, n4, n5⟩ := b1'
        obtain ⟨⟨ha, ha1, ha2⟩, ⟨hb, hb1, hb2⟩, ⟨hc', hc1, hc2⟩⟩ := n5 y y0 y1
        refine w_iload (pc' := 74) dX7_moved_72 rfl rfl ?_
        refine w_aload (pc' := 76) dX7_moved_74 rfl rfl ?_
        -- at 76: .invokevirtual 28
        refine w_callV0 (pc' := 79) (mc := 0) (ms := 0) dX7_moved_76 rfl tX7_columns q585 rfl rfl q586 q584 n1 rfl (Nat.le_of_ble_eq_true rfl) (Nat.le_of_ble_eq_true rfl) ?_
        refine c_X7_columns b1'' (by omega) ?_
        refine w_p1 ?_
        refine w_icmp_ge (pc' := 82) (tgt := 209) dX7_moved_79 rfl rfl (fun h_ => False.elim (by first | omega | (simp (decide := true) only [au_1, nu_2, au_lt, nu_lt, aw_e, nw_e, au_s, au_n, nu_s, nu_n, au_au, nu_nu, au_nu] at h_; omega))) (fun h_ => ?_)
        refine w_iload_n (pc' := 83) dX7_moved_82 rfl rfl ?_
        refine w_iload (pc' := 85) dX7_moved_83 rfl rfl ?_
        refine w_iload (pc' := 87) dX7_moved_85 rfl rfl ?_
        refine w_iload (pc' := 89) dX7_moved_87 rfl rfl ?_
        -- at 89: .invokestatic 34
        refine w_callS4 (pc' := 92) (mc := 0) (ms := 0) dX7_moved_89 rfl tX3_row q591 q590 rfl (Nat.le_of_ble_eq_true rfl) (Nat.le_of_ble_eq_true rfl) ?_
        refine c_X3_row ⟨by omega, by omega⟩ ⟨by omega, by omega⟩ ⟨by omega, by omega⟩ ?_
        refine w_p1 ?_
        refine w_ist9 (pc' := 94) dX7_moved_92 rfl rfl ?_
        refine w_iload_n (pc' := 95) dX7_moved_94 rfl rfl ?_
        refine w_iload (pc' := 97) dX7_moved_95 rfl rfl ?_
        refine w_iload (pc' := 99) dX7_moved_97 rfl rfl ?_
        refine w_iload (pc' := 101) dX7_moved_99 rfl rfl ?_
        -- at 101: .invokestatic 40
        refine w_callS4 (pc' := 104) (mc := 0) (ms := 0) dX7_moved_101 rfl tX3_column q594 q593 rfl (Nat.le_of_ble_eq_true rfl) (Nat.le_of_ble_eq_true rfl) ?_
        refine c_X3_column hm ⟨by omega, by omega⟩ ⟨by omega, by omega⟩ ⟨by omega, by omega⟩ ?_
        refine w_p1 ?_
        refine w_ist10 (pc' := 106) dX7_moved_104 rfl rfl ?_
        refine w_aload_n (pc' := 107) dX7_moved_106 rfl rfl ?_
        refine w_get 0 (pc' := 110) dX7_moved_107 rfl fX7_11_6 p1 rfl ?_
        refine w_iload (pc' := 112) dX7_moved_110 rfl rfl ?_
        refine w_aaldM (pc' := 113) dX7_moved_112 rfl p2 ci0 ci1 ?_
        refine w_iload (pc' := 115) dX7_moved_113 rfl rfl ?_
        refine w_bald (pc' := 116) dX7_moved_115 rfl ga1 cj0 cj1 ?_
        -- at 116: .istore 11
        rw [ga2 _ cj0 cj1]
        refine w_ist11 (pc' := 118) dX7_moved_116 rfl rfl ?_
        refine w_aload (pc' := 120) dX7_moved_118 rfl rfl ?_
        refine w_get 0 (pc' := 123) dX7_moved_120 rfl fX7_11_6 n1 rfl ?_
        refine w_iload (pc' := 125) dX7_moved_123 rfl rfl ?_
        refine w_aaldM (pc' := 126) dX7_moved_125 rfl n2 y0 y1 ?_
        refine w_iload (pc' := 128) dX7_moved_126 rfl rfl ?_
        refine w_iload (pc' := 130) dX7_moved_128 rfl rfl ?_
        refine w_i2b (pc' := 131) dX7_moved_130 rfl ?_
        -- at 131: .bastore
        rw [iB_id ⟨by omega, by have := hk.1; omega⟩]
        refine w_bast (pc' := 132) dX7_moved_131 rfl ha1 x0 x1 ⟨by omega, by have := hk.1; omega⟩ ?_
        -- at 132: .aload 6
        refine w_upd (fun G2 a2 f2 => ?_)
        have p1 := (f2 _ (rl_ne (by omega))).trans p1
        have p2 := (f2 _ (rl_ne (by omega))).trans p2
        have p3 := (f2 _ (rl_ne (by omega))).trans p3
        have p4 := (f2 _ (rl_ne (by omega))).trans p4
        have gb1 := (f2 _ (rl_ne (by omega))).trans gb1
        have gc1 := (f2 _ (rl_ne (by omega))).trans gc1
        have n1 := (f2 _ (rl_ne (by omega))).trans n1
        have n3 := (f2 _ (rl_ne (by omega))).trans n3
        have n4 := (f2 _ (rl_ne (by omega))).trans n4
        have hb1 := (f2 _ (rl_ne (by omega))).trans hb1
        have hc1 := (f2 _ (rl_ne (by omega))).trans hc1
        have ho := (f2 _ (rl_ne (by omega))).trans ho
        have hL := (f2 _ (rl_ne (by omega))).trans hL
        have bb2 := blo_k b1'' ha1 a2 f2
        have fr2 := bfr_t fr1 (bfr_s (by omega) f2)
        have hK : Rkin σ G2 := Rkin_fr (fun q hq => f2 q (fun z => by rw [z] at hq; simp only [] at hq; omega)) hK
        -- the move
        have mid : ∀ z : Int, (0 ≤ z ∧ z < 8) → z = (if fk (cfI m H y x) (cfJ m W y x) < 0 then 0 else lie (σ.2 3 (fk (cfI m H y x) (cfJ m W y x))) (σ.2 1 (fk (cfI m H y x) (cfJ m W y x))) (thn (fm (cfI m H y x) (cfJ m W y x)) m)) → tvW mX7_moved (d + 3) K 180 [some (xR (33, b, 0)), some (xI m), some (xR oR), some (xI od), some (xI H), some (xI W), some (xR (33, b1, 0)), some (xI y), some (xI x), some (xI (cfI m H y x)), some (xI (cfJ m W y x)), some (xI (fk (cfI m H y x) (cfJ m W y x)))] [xI z, xI x, xR (36, b1, y)] G2 0 0 := by
          intro z hz ez
          refine w_i2b (pc' := 181) dX7_moved_180 rfl ?_
          -- at 181: .bastore
          rw [iB_id ⟨by omega, by omega⟩]
          refine w_bast (pc' := 182) dX7_moved_181 rfl hb1 x0 x1 ⟨by omega, by omega⟩ ?_
          -- at 182: .aload 6
          refine w_upd (fun G3 a3 f3 => ?_)
          have p1 := (f3 _ (rl_ne (by omega))).trans p1
          have p4 := (f3 _ (rl_ne (by omega))).trans p4
          have gc1 := (f3 _ (rl_ne (by omega))).trans gc1
          have n1 := (f3 _ (rl_ne (by omega))).trans n1
          have n4 := (f3 _ (rl_ne (by omega))).trans n4
          have hc1 := (f3 _ (rl_ne (by omega))).trans hc1
          have bb3 := blo_m bb2 hb1 a3 f3
          have fr3 := bfr_t fr2 (bfr_s (by omega) f3)
          refine w_aload (pc' := 184) dX7_moved_182 rfl rfl ?_
          refine w_get 2 (pc' := 187) dX7_moved_184 rfl fX7_21_6 n1 rfl ?_
          refine w_iload (pc' := 189) dX7_moved_187 rfl rfl ?_
          refine w_aaldM (pc' := 190) dX7_moved_189 rfl n4 y0 y1 ?_
          refine w_iload (pc' := 192) dX7_moved_190 rfl rfl ?_
          refine w_aload_n (pc' := 193) dX7_moved_192 rfl rfl ?_
          refine w_get 2 (pc' := 196) dX7_moved_193 rfl fX7_21_6 p1 rfl ?_
          refine w_iload (pc' := 198) dX7_moved_196 rfl rfl ?_
          refine w_aaldM (pc' := 199) dX7_moved_198 rfl p4 ci0 ci1 ?_
          refine w_iload (pc' := 201) dX7_moved_199 rfl rfl ?_
          refine w_sald (pc' := 202) dX7_moved_201 rfl gc1 cj0 cj1 ?_
          -- at 202: .sastore
          rw [gc2 _ cj0 cj1]
          refine w_sast (pc' := 203) dX7_moved_202 rfl hc1 x0 x1 hr3 ?_
          -- at 203: .iinc 8 1
          refine w_upd (fun G4 a4 f4 => ?_)
          have bb4 := blo_s bb3 hc1 a4 f4
          have fr4 := bfr_t fr3 (bfr_s (by omega) f4)
          refine w_inc8 (pc' := 206) dX7_moved_203 rfl rfl ⟨by first | omega | (simp (decide := true) only [au_1, nu_2, au_lt, nu_lt, aw_e, nw_e, au_s, au_n, nu_s, nu_n, au_au, nu_nu, au_nu]; omega), by first | omega | (simp (decide := true) only [au_1, nu_2, au_lt, nu_lt, aw_e, nw_e, au_s, au_n, nu_s, nu_n, au_au, nu_nu, au_nu]; omega)⟩ ?_
          refine w_goto (tgt := 72) dX7_moved_206 rfl ?_
          -- at 72: .iload 8
          refine ihx (by omega) _ _ _ G4 _ _ _ fr4 bb4 ?_
          rw [hS] at s ⊢
          intro y' x' q1 q2 q3 q4 q5
          unfold upd2
          by_cases e : y' = y ∧ x' = x
          · rw [if_pos e, if_pos e, if_pos e, e.1, e.2]
            exact ⟨rfl, ez, rfl⟩
          · rw [if_neg e, if_neg e, if_neg e]
            exact s y' x' q1 q2 q3 q4 (by omega)
        refine w_aload (pc' := 134) dX7_moved_132 rfl rfl ?_
        refine w_get 1 (pc' := 137) dX7_moved_134 rfl fX7_16_6 n1 rfl ?_
        refine w_iload (pc' := 139) dX7_moved_137 rfl rfl ?_
        refine w_aaldM (pc' := 140) dX7_moved_139 rfl n3 y0 y1 ?_
        refine w_iload (pc' := 142) dX7_moved_140 rfl rfl ?_
        refine w_iload (pc' := 144) dX7_moved_142 rfl rfl ?_
        -- at 144: .ifCond .ge 7
        refine w_if_ge (pc' := 147) (tgt := 151) dX7_moved_144 rfl rfl (fun g => ?_) (fun g => ?_)
        · obtain ⟨tE, tT, tC, tN⟩ := hk.2 _ g hr1.2
          have tl := hK.2 _ g hr1.2
          refine w_aload_n (pc' := 152) dX7_moved_151 rfl rfl ?_
          refine w_get 0 (pc' := 155) dX7_moved_152 rfl fX7_43_0 ho rfl ?_
          refine w_iload (pc' := 157) dX7_moved_155 rfl rfl ?_
          -- at 157: .invokevirtual 46
          refine w_callV1 (pc' := 160) (mc := 0) (ms := 0) dX7_moved_157 rfl tJ2_get q211 rfl rfl q212 q596 hL rfl (Nat.le_of_ble_eq_true rfl) (Nat.le_of_ble_eq_true rfl) ?_
          refine c_J2_get hK.1 ⟨g, hr1.2⟩ ?_
          refine w_p1 ?_
          refine w_cast (pc' := 163) dX7_moved_160 rfl tl.1 rfl q597 ?_
          refine w_aload_n (pc' := 164) dX7_moved_163 rfl rfl ?_
          refine w_get 1 (pc' := 167) dX7_moved_164 rfl fX7_16_6 p1 rfl ?_
          refine w_iload (pc' := 169) dX7_moved_167 rfl rfl ?_
          refine w_aaldM (pc' := 170) dX7_moved_169 rfl p3 ci0 ci1 ?_
          refine w_iload (pc' := 172) dX7_moved_170 rfl rfl ?_
          refine w_bald (pc' := 173) dX7_moved_172 rfl gb1 cj0 cj1 ?_
          -- at 173: .iload_n 1
          rw [gb2 _ cj0 cj1]
          refine w_iload_n (pc' := 174) dX7_moved_173 rfl rfl ?_
          -- at 174: .invokestatic 54
          refine w_callS2 (pc' := 177) (mc := 0) (ms := 0) dX7_moved_174 rfl tX3_then q349 q598 rfl (Nat.le_of_ble_eq_true rfl) (Nat.le_of_ble_eq_true rfl) ?_
          refine c_X3_then hr2 hm ?_
          refine w_p1 ?_
          have ht := thn_r hr2.1 hr2.2 hm.1 hm.2
          refine w_callV1 (pc' := 180) (mc := 0) (ms := 0) dX7_moved_177 rfl tX2_lies q327 rfl rfl q328 q599 tl.1 rfl (Nat.le_of_ble_eq_true rfl) (Nat.le_of_ble_eq_true rfl) ?_
          refine c_X2_lies tl tT ht ?_
          refine w_p1 ?_
          exact mid _ (lie_r tT ht.1 ht.2) (by rw [if_neg (by omega)])
        · refine w_iconst (pc' := 148) dX7_moved_147 rfl (by decide) ?_
          refine w_goto (tgt := 180) dX7_moved_148 rfl ?_
          -- at 180: .i2b
          exact mid 0 (by omega) (by rw [if_pos (by omega)])
  have start : ∀ (od : Int) (H' W' : Nat), (H' : Int) = mvR m H W → (W' : Int) = mvC m H W → H' ≤ 20 → W' ≤ 20 → 1 ≤ H' → 1 ≤ W' → ∀ (G1 : GH), (∀ q, q ≠ ((33, b1, 0) : Rl) → G1 q = G q) → G1 (33, b1, 0) = some (xob 6 [xN, xN, xN]) → tvW mX7_moved (d + 3) K 51 [some (xR (33, b, 0)), some (xI m), some (xR oR), some (xI od), some (xI H), some (xI W), none, none, none, none, none, none] [xI W', xI H', xR (33, b1, 0), xR (33, b1, 0)] G1 63 1260 := by
    intro od H' W' eH eW lH lW pH pW G1 f1 a1
    have hHW : H' * W' ≤ 400 := Nat.mul_le_mul lH lW
    refine w_callI2 (pc' := 54) (mc := 63) (ms := 1260) dX7_moved_51 rfl tX7_init rfl rfl q552 (Or.inl q589) rfl (Nat.le_of_ble_eq_true rfl) (Nat.le_of_ble_eq_true rfl) ?_
    refine c_X7_init lH lW (by omega) (by omega) a1 (fun i => (f1 _ (rl_ne (by omega))).trans (hn 34 i (by omega) (by omega))) (fun i => (f1 _ (rl_ne (by omega))).trans (hn 35 i (by omega) (by omega))) (fun i => (f1 _ (rl_ne (by omega))).trans (hn 36 i (by omega) (by omega))) (fun i => (f1 _ (rl_ne (by omega))).trans (hn 37 i (by omega) (by omega))) (fun G2 f2 b2 => w_p0 ?_)
    refine w_ast6 (pc' := 56) dX7_moved_54 rfl rfl ?_
    refine w_iconst (pc' := 57) dX7_moved_56 rfl (by decide) ?_
    refine w_ist7 (pc' := 59) dX7_moved_57 rfl rfl ?_
    -- at 59: .iload 7
    exact main od H' W' eH eW lH lW pH pW G2 _ _ _ (bfr_t (bfr_s (by omega) f1) f2) b2 _ _ _ _
  have two : ∀ od : Int, (od = 1 ∧ m % 2 = 1 ∨ od = 0 ∧ m % 2 = 0) → tvW mX7_moved (d + 3) K 12 [some (xR (33, b, 0)), some (xI m), some (xR oR), none, none, none, none, none, none, none, none, none] [xI od] G 64 1263 := by
    intro od hod
    refine w_ist3 (pc' := 13) dX7_moved_12 rfl rfl ?_
    refine w_aload_n (pc' := 14) dX7_moved_13 rfl rfl ?_
    -- at 14: .invokevirtual 24
    refine w_callV0 (pc' := 17) (mc := 0) (ms := 0) dX7_moved_14 rfl tX7_rows q581 rfl rfl q582 q580 hb.1 rfl (Nat.le_of_ble_eq_true rfl) (Nat.le_of_ble_eq_true rfl) ?_
    refine c_X7_rows hb ?_
    refine w_p1 ?_
    refine w_ist4 (pc' := 19) dX7_moved_17 rfl rfl ?_
    refine w_aload_n (pc' := 20) dX7_moved_19 rfl rfl ?_
    -- at 20: .invokevirtual 28
    refine w_callV0 (pc' := 23) (mc := 0) (ms := 0) dX7_moved_20 rfl tX7_columns q585 rfl rfl q586 q584 hb.1 rfl (Nat.le_of_ble_eq_true rfl) (Nat.le_of_ble_eq_true rfl) ?_
    refine c_X7_columns hb (by omega) ?_
    refine w_p1 ?_
    refine w_ist5 (pc' := 25) dX7_moved_23 rfl rfl ?_
    refine w_new (N := 3) (33, b1, 0) (pc' := 28) dX7_moved_25 rfl nX7_12 (by assumption) (by first | assumption | simp) ?_
    -- at 28: .dup
    refine w_upd (fun G1 a1 f1 => ?_)
    rcases hod with ⟨rfl, hod⟩ | ⟨rfl, hod⟩
    · refine w_dup (pc' := 29) dX7_moved_28 rfl rfl ?_
      refine w_iload_n (pc' := 30) dX7_moved_29 rfl rfl ?_
      -- at 30: .ifCond .eq 8
      refine w_if_eq (pc' := 33) (tgt := 38) dX7_moved_30 rfl rfl (fun h_ => False.elim (by first | omega | (simp (decide := true) only [au_1, nu_2, au_lt, nu_lt, aw_e, nw_e, au_s, au_n, nu_s, nu_n, au_au, nu_nu, au_nu] at h_; omega))) (fun h_ => ?_)
      refine w_iload (pc' := 35) dX7_moved_33 rfl rfl ?_
      refine w_goto (tgt := 40) dX7_moved_35 rfl ?_
      -- at 40: .iload_n 3
      refine w_iload_n (pc' := 41) dX7_moved_40 rfl rfl ?_
      -- at 41: .ifCond .eq 8
      refine w_if_eq (pc' := 44) (tgt := 49) dX7_moved_41 rfl rfl (fun h_ => False.elim (by first | omega | (simp (decide := true) only [au_1, nu_2, au_lt, nu_lt, aw_e, nw_e, au_s, au_n, nu_s, nu_n, au_au, nu_nu, au_nu] at h_; omega))) (fun h_ => ?_)
      refine w_iload (pc' := 46) dX7_moved_44 rfl rfl ?_
      refine w_goto (tgt := 51) dX7_moved_46 rfl ?_
      -- at 51: .invokespecial 31
      exact start 1 W H (by unfold mvR; rw [if_neg (by omega)]) (by unfold mvC; rw [if_neg (by omega)]) hW.2 hH.2 hW.1 hH.1 G1 f1 a1
    · refine w_dup (pc' := 29) dX7_moved_28 rfl rfl ?_
      refine w_iload_n (pc' := 30) dX7_moved_29 rfl rfl ?_
      -- at 30: .ifCond .eq 8
      refine w_if_eq (pc' := 33) (tgt := 38) dX7_moved_30 rfl rfl (fun h_ => ?_) (fun h_ => False.elim (by first | omega | (simp (decide := true) only [au_1, nu_2, au_lt, nu_lt, aw_e, nw_e, au_s, au_n, nu_s, nu_n, au_au, nu_nu, au_nu] at h_; omega)))
      refine w_iload (pc' := 40) dX7_moved_38 rfl rfl ?_
      -- at 40: .iload_n 3
      refine w_iload_n (pc' := 41) dX7_moved_40 rfl rfl ?_
      -- at 41: .ifCond .eq 8
      refine w_if_eq (pc' := 44) (tgt := 49) dX7_moved_41 rfl rfl (fun h_ => ?_) (fun h_ => False.elim (by first | omega | (simp (decide := true) only [au_1, nu_2, au_lt, nu_lt, aw_e, nw_e, au_s, au_n, nu_s, nu_n, au_au, nu_nu, au_nu] at h_; omega)))
      refine w_iload (pc' := 51) dX7_moved_49 rfl rfl ?_
      -- at 51: .invokespecial 31
      exact start 0 H W (by unfold mvR; rw [if_pos hod]) (by unfold mvC; rw [if_pos hod]) hH.2 hW.2 hH.1 hW.1 G1 f1 a1
  refine w_iload_n (pc' := 1) dX7_moved_0 rfl rfl ?_
  refine w_iconst (pc' := 2) dX7_moved_1 rfl (by decide) ?_
  refine w_iand (pc' := 3) dX7_moved_2 rfl ?_
  -- at 3: .iconst 1
  rw [e1]
  refine w_iconst (pc' := 4) dX7_moved_3 rfl (by decide) ?_
  -- at 4: .if_icmp .ne 7
  refine w_icmp_ne (pc' := 7) (tgt := 11) dX7_moved_4 rfl rfl (fun g => ?_) (fun g => ?_)
  · refine w_iconst (pc' := 12) dX7_moved_11 rfl (by decide) ?_
    -- at 12: .istore_n 3
    exact two 0 (by omega)
  · refine w_iconst (pc' := 8) dX7_moved_7 rfl (by decide) ?_
    refine w_goto (tgt := 12) dX7_moved_8 rfl ?_
    -- at 12: .istore_n 3
    exact two 1 (by omega)
end
