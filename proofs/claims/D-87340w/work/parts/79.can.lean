set_option maxRecDepth 10000
theorem lMul_of {a b : Int} (h : rgL (a * b)) : lMul a b = a * b := by
  unfold lMul
  rw [← Int64.ofInt_mul, e_toIntL h]
section
variable {d : Nat} {K : Option XV → GH → Prop} {G : GH} {bc bs : Nat} {σ : MS} {w : RW}
theorem c_X0_isTurned {p r n : Int} (hw : Rx σ w G) (hK : kok σ) (hR : rok σ) (hP : pok σ) (hQ : qok σ) (hp : 0 ≤ p ∧ p < σ.1 12) (hr : 0 ≤ r ∧ r < σ.1 29) (hn : 0 ≤ n ∧ n ≤ 5) (h1 : trn σ r p n → ∀ G', sfr r G G' → Rx σ w G' → K (some (xI 1)) G') (h0 : ¬ trn σ r p n → ∀ G', sfr r G G' → Rx σ w G' → K (some (xI 0)) G') : tvW mX0_isTurned (d + 5) K 0 [some (xR oR), some (xR (pO p)), some (xR (uO r)), some (xI n), none, none, none, none, none, none] [] G 3200 12600 := by
  have hk1 := hK.1
  have hof := hw.1
  have hof0 := hof
  unfold off at hof0
  obtain ⟨H, W, eH, eW, hU⟩ := hw.2.2.2.2.2.2.1.2 r hr.1 hr.2
  obtain ⟨hPo, -⟩ := hw.2.2.2.1.2 p hp.1 hp.2
  have hpr := Rx_prw hw hR hP hp.1 hp.2
  have hkin := hw.2.1
  obtain ⟨hz0, hz1⟩ := zbd_of hw.2.2.2.2.2.2.2.2.1
  have hM := (hP.2 p hp.1 hp.2).1
  have hst : ∃ S : Int → Int → GH → (Int → Int → Prop) → Prop, S = fun i t G1 N => (∀ q : Rl, ¬ (q.1 = 7 ∧ q.2.1 = 0) → G1 q = G q) ∧ bbd G1 0 N ∧ (∀ k m, N k m → gst (σ.2 11 p) (gp0 σ p) k m) ∧ ∀ i0 t0, (0 ≤ i0 ∧ i0 < σ.2 11 p) → (0 ≤ t0 ∧ t0 < σ.2 6 (rw_ σ p i0)) → (i0 < i ∨ i0 = i ∧ t0 < t) → σ.2 8 (60 * rw_ σ p i0 + t0) ≠ 0 → N (kOf (σ.2 8 (60 * rw_ σ p i0 + t0))) (mOf (σ.2 8 (60 * rw_ σ p i0 + t0))) := ⟨_, rfl⟩
  obtain ⟨S, hS⟩ := hst
  have two : ∀ (G1 : GH) (v4 v5 v6 v7 v8 : Option XV), S 0 0 G1 (fun _ _ => False) → tvW mX0_isTurned (d + 5) K 56 [some (xR oR), some (xR (pO p)), some (xR (uO r)), some (xI n), v4, v5, v6, v7, v8, none] [] G1 3200 12600 := by
    intro G1 v4 v5 v6 v7 v8 s
    have inv : ∀ i t G2 N, S i t G2 N → G2 (pO p) = some (xob 3 [xR (lO (w.1 p))]) ∧ prw G2 (w.1 p) (σ.2 11 p) (rw_ σ p) (fun i => σ.2 6 (rw_ σ p i)) (fun i => σ.2 7 (rw_ σ p i)) (fun i k => σ.2 8 (60 * rw_ σ p i + k)) ∧ off G2 (σ.1 16) (σ.1 9) (σ.1 41) w.2.2.2.2 := by
      intro i t G2 N s
      rw [hS] at s
      have f := s.1
      exact ⟨(f _ (by simp only []; omega)).trans hPo, prw_fr (fun q hq => f q (by omega)) hpr, (f _ (by simp only []; omega)).trans hof⟩
    refine w_iconst (pc' := 57) dX0_isTurned_56 rfl (by decide) ?_
    refine w_ist4 (pc' := 59) dX0_isTurned_57 rfl rfl ?_
    -- at 59: .iload 4
    refine up (T := fun i => 0 ≤ i → ∀ (v5 v6 v7 v8 : Option XV) (G2 : GH) (N : Int → Int → Prop), S i 0 G2 N → tvW mX0_isTurned (d + 5) K 59 [some (xR oR), some (xR (pO p)), some (xR (uO r)), some (xI n), (some (xI i)), v5, v6, v7, v8, none] [] G2 3200 12600) (σ.2 11 p) hM.1 ?_ ?_ (Int.le_refl _) v5 v6 v7 v8 G1 _ s
    · intro _ v5 v6 v7 v8 G2 N s
      obtain ⟨q1, q2, q3⟩ := inv _ _ _ _ s
      obtain ⟨lf, hlO⟩ := lst_o q2.1
      rw [hS] at s
      obtain ⟨s1, s2, s3, s4⟩ := s
      have u2 : rul G2 r H W (uB σ r) := rul_fr (s1 _ (by simp only []; omega)) (s1 _ (by simp only []; omega)) (fun k k0 k1 z z1 z2 => s1 z (by omega)) hU
      have b2 : bbd G2 0 (gst (σ.2 11 p) (gp0 σ p)) := by
        refine bbd_c (fun k m _ _ _ _ => ⟨s3 k m, ?_⟩) s2
        rintro ⟨i, t, hi, ht, hc, ek, em⟩
        have z := s4 i t hi ht (Or.inl hi.2) hc
        have ek : kOf (σ.2 8 (60 * rw_ σ p i + t)) = k := ek
        have em : mOf (σ.2 8 (60 * rw_ σ p i + t)) = m := em
        rw [ek, em] at z
        exact z
      refine w_iload (pc' := 61) dX0_isTurned_59 rfl rfl ?_
      refine w_aload_n (pc' := 62) dX0_isTurned_61 rfl rfl ?_
      refine w_get 0 (pc' := 65) dX0_isTurned_62 rfl fX0_140_3 q1 rfl ?_
      -- at 65: .invokevirtual 54
      refine w_callV0 (pc' := 68) (mc := 0) (ms := 0) dX0_isTurned_65 rfl tJ2_size q207 rfl rfl q208 q206 hlO rfl (Nat.le_of_ble_eq_true rfl) (Nat.le_of_ble_eq_true rfl) ?_
      refine c_J2_size q2.1 ?_
      refine w_p1 ?_
      refine w_icmp_ge (pc' := 71) (tgt := 145) dX0_isTurned_68 rfl rfl (fun h_ => ?_) (fun h_ => False.elim (by first | omega | (simp (decide := true) only [au_1, nu_2, au_lt, nu_lt, aw_e, nw_e, au_s, au_n, nu_s, nu_n, au_au, nu_nu, au_nu] at h_; omega)))
      have f2 : sfr r G G2 := sfr_0 s1
      exact c_X0_isTurned_3 q3 (Rkin_fr2 (fun z hz => s1 z (by omega)) hkin) hK hQ hr u2 eH eW b2 (zbd_fr (s1 _ (by simp only []; omega)) (fun k => s1 _ (by simp only []; omega)) hz1) hn (fun ht G3 f3 u3 z0 z1 => h1 ht G3 (sfr_t f2 f3) (Rx_sfr hw hQ hr eH eW (sfr_t f2 f3) u3 z0 z1)) (fun ht G3 f3 u3 z0 z1 => h0 ht G3 (sfr_t f2 f3) (Rx_sfr hw hQ hr eH eW (sfr_t f2 f3) u3 z0 z1))
    · intro i i0 i1 ih _ v5 v6 v7 v8 G2 N s
      obtain ⟨q1, q2, q3⟩ := inv _ _ _ _ s
      obtain ⟨lf, hlO⟩ := lst_o q2.1
      obtain ⟨hrow, hL, -⟩ := q2.2 i i0 i1
      simp only [] at hL hrow
      have hrw := (hP.2 p hp.1 hp.2).2 i i0 i1
      have hrr := (hR.2 _ hrw.1 hrw.2).2.2
      refine w_iload (pc' := 61) dX0_isTurned_59 rfl rfl ?_
      refine w_aload_n (pc' := 62) dX0_isTurned_61 rfl rfl ?_
      refine w_get 0 (pc' := 65) dX0_isTurned_62 rfl fX0_140_3 q1 rfl ?_
      -- at 65: .invokevirtual 54
      refine w_callV0 (pc' := 68) (mc := 0) (ms := 0) dX0_isTurned_65 rfl tJ2_size q207 rfl rfl q208 q206 hlO rfl (Nat.le_of_ble_eq_true rfl) (Nat.le_of_ble_eq_true rfl) ?_
      refine c_J2_size q2.1 ?_
      refine w_p1 ?_
      refine w_icmp_ge (pc' := 71) (tgt := 145) dX0_isTurned_68 rfl rfl (fun h_ => False.elim (by first | omega | (simp (decide := true) only [au_1, nu_2, au_lt, nu_lt, aw_e, nw_e, au_s, au_n, nu_s, nu_n, au_au, nu_nu, au_nu] at h_; omega))) (fun h_ => ?_)
      refine w_aload_n (pc' := 72) dX0_isTurned_71 rfl rfl ?_
      refine w_get 0 (pc' := 75) dX0_isTurned_72 rfl fX0_140_3 q1 rfl ?_
      refine w_iload (pc' := 77) dX0_isTurned_75 rfl rfl ?_
      -- at 77: .invokevirtual 58
      refine w_callV1 (pc' := 80) (mc := 0) (ms := 0) dX0_isTurned_77 rfl tJ2_get q211 rfl rfl q212 q210 hlO rfl (Nat.le_of_ble_eq_true rfl) (Nat.le_of_ble_eq_true rfl) ?_
      refine c_J2_get q2.1 ⟨i0, i1⟩ ?_
      refine w_p1 ?_
      refine w_cast (pc' := 83) dX0_isTurned_80 rfl hrow.1 rfl q425 ?_
      refine w_ast5 (pc' := 85) dX0_isTurned_83 rfl rfl ?_
      refine w_iconst (pc' := 86) dX0_isTurned_85 rfl (by decide) ?_
      refine w_ist6 (pc' := 88) dX0_isTurned_86 rfl rfl ?_
      -- at 88: .iload 6
      refine up (T := fun t => 0 ≤ t → ∀ (G2 : GH) (N : Int → Int → Prop), S i t G2 N → tvW mX0_isTurned (d + 5) K 88 [some (xR oR), some (xR (pO p)), some (xR (uO r)), some (xI n), (some (xI i)), (some (xR (rO (rw_ σ p i)))), (some (xI t)), v7, v8, none] [] G2 3200 12600) (σ.2 6 (rw_ σ p i)) hL.1 ?_ ?_ (Int.le_refl _) G2 N s
      · intro _ G2 N s
        obtain ⟨q1, q2, q3⟩ := inv _ _ _ _ s
        obtain ⟨⟨ro, nn, fk, fm, fs, hnn, ak, -⟩, -⟩ := q2.2 i i0 i1
        simp only [] at hnn ro
        refine w_iload (pc' := 90) dX0_isTurned_88 rfl rfl ?_
        refine w_aload (pc' := 92) dX0_isTurned_90 rfl rfl ?_
        refine w_get 0 (pc' := 95) dX0_isTurned_92 rfl fX0_187_5 ro rfl ?_
        refine w_alen (pc' := 96) dX0_isTurned_95 rfl ak ?_
        -- at 96: .if_icmp .ge 43
        rw [hnn]
        refine w_icmp_ge (pc' := 99) (tgt := 139) dX0_isTurned_96 rfl rfl (fun h_ => ?_) (fun h_ => False.elim (by first | omega | (simp (decide := true) only [au_1, nu_2, au_lt, nu_lt, aw_e, nw_e, au_s, au_n, nu_s, nu_n, au_au, nu_nu, au_nu] at h_; omega)))
        refine w_inc4 (pc' := 142) dX0_isTurned_139 rfl rfl ⟨by first | omega | (simp (decide := true) only [au_1, nu_2, au_lt, nu_lt, aw_e, nw_e, au_s, au_n, nu_s, nu_n, au_au, nu_nu, au_nu]; omega), by first | omega | (simp (decide := true) only [au_1, nu_2, au_lt, nu_lt, aw_e, nw_e, au_s, au_n, nu_s, nu_n, au_au, nu_nu, au_nu]; omega)⟩ ?_
        refine w_goto (tgt := 59) dX0_isTurned_142 rfl ?_
        -- at 59: .iload 4
        refine ih (by omega) _ _ _ _ G2 N ?_
        rw [hS] at s ⊢
        refine ⟨s.1, s.2.1, s.2.2.1, fun i' t' a1 a2 a3 => s.2.2.2 i' t' a1 a2 ?_⟩
        by_cases e : i' = i
        · rw [e] at a2
          omega
        · omega
      · intro t t0 t1 iht _ G2 N s
        obtain ⟨q1, q2, q3⟩ := inv _ _ _ _ s
        unfold off at q3
        obtain ⟨⟨ro, nn, fk, fm, fs, hnn, ak, am, as, hC⟩, -⟩ := q2.2 i i0 i1
        simp only [] at hnn ro
        obtain ⟨c1, c2, -⟩ := hC t t0 t1
        simp only [] at c1 c2
        have hci := hrr t t0 t1
        rw [hS] at s
        obtain ⟨s1, s2, s3, s4⟩ := s
        have s26 := s2.1
        generalize hcc : σ.2 8 (60 * rw_ σ p i + t) = c at *
        have nxt : ∀ (G3 : GH) (N3 : Int → Int → Prop), S i (t + 1) G3 N3 → tvW mX0_isTurned (d + 5) K 133 [some (xR oR), some (xR (pO p)), some (xR (uO r)), some (xI n), (some (xI i)), (some (xR (rO (rw_ σ p i)))), (some (xI t)), v7, v8, none] [] G3 3200 12600 := by
          intro G3 N3 s3
          refine w_inc6 (pc' := 136) dX0_isTurned_133 rfl rfl ⟨by first | omega | (simp (decide := true) only [au_1, nu_2, au_lt, nu_lt, aw_e, nw_e, au_s, au_n, nu_s, nu_n, au_au, nu_nu, au_nu]; omega), by first | omega | (simp (decide := true) only [au_1, nu_2, au_lt, nu_lt, aw_e, nw_e, au_s, au_n, nu_s, nu_n, au_au, nu_nu, au_nu]; omega)⟩ ?_
          refine w_goto (tgt := 88) dX0_isTurned_136 rfl ?_
          -- at 88: .iload 6
          exact iht (by omega) G3 N3 s3
        refine w_iload (pc' := 90) dX0_isTurned_88 rfl rfl ?_
        refine w_aload (pc' := 92) dX0_isTurned_90 rfl rfl ?_
        refine w_get 0 (pc' := 95) dX0_isTurned_92 rfl fX0_187_5 ro rfl ?_
        refine w_alen (pc' := 96) dX0_isTurned_95 rfl ak ?_
        -- at 96: .if_icmp .ge 43
        rw [hnn]
        refine w_icmp_ge (pc' := 99) (tgt := 139) dX0_isTurned_96 rfl rfl (fun h_ => False.elim (by first | omega | (simp (decide := true) only [au_1, nu_2, au_lt, nu_lt, aw_e, nw_e, au_s, au_n, nu_s, nu_n, au_au, nu_nu, au_nu] at h_; omega))) (fun h_ => ?_)
        refine w_aload (pc' := 101) dX0_isTurned_99 rfl rfl ?_
        refine w_get 0 (pc' := 104) dX0_isTurned_101 rfl fX0_187_5 ro rfl ?_
        refine w_iload (pc' := 106) dX0_isTurned_104 rfl rfl ?_
        refine w_bald (pc' := 107) dX0_isTurned_106 rfl ak t0 (by omega) ?_
        -- at 107: .ifCond .lt 26
        rw [c1]
        by_cases z : c = 0
        · rw [(cd_0 z).1]
          refine w_if_lt (pc' := 110) (tgt := 133) dX0_isTurned_107 rfl rfl (fun h_ => ?_) (fun h_ => False.elim (by first | omega | (simp (decide := true) only [au_1, nu_2, au_lt, nu_lt, aw_e, nw_e, au_s, au_n, nu_s, nu_n, au_au, nu_nu, au_nu] at h_; omega)))
          refine nxt G2 N ?_
          rw [hS]
          refine ⟨s1, s2, s3, fun i0' t0' a1 a2 a3 a4 => ?_⟩
          by_cases e : i0' = i ∧ t0' = t
          · rw [e.1, e.2, hcc] at a4
            exact absurd z a4
          · exact s4 i0' t0' a1 a2 (by omega) a4
        · have hkc := isC_k hci z
          have hmc := mOf_r (c := c)
          rw [(cd_n z).1] at c1
          rw [(cd_n z).2.1] at c2
          rw [(cd_n z).1]
          obtain ⟨g, g1, -⟩ := s2.2 (kOf c) hkc.1 (by omega)
          refine w_if_lt (pc' := 110) (tgt := 133) dX0_isTurned_107 rfl rfl (fun h_ => False.elim (by first | omega | (simp (decide := true) only [au_1, nu_2, au_lt, nu_lt, aw_e, nw_e, au_s, au_n, nu_s, nu_n, au_au, nu_nu, au_nu] at h_; omega))) (fun h_ => ?_)
          refine w_aload_n (pc' := 111) dX0_isTurned_110 rfl rfl ?_
          refine w_get 9 (pc' := 114) dX0_isTurned_111 rfl fX0_33_0 q3 rfl ?_
          refine w_aload (pc' := 116) dX0_isTurned_114 rfl rfl ?_
          refine w_get 0 (pc' := 119) dX0_isTurned_116 rfl fX0_187_5 ro rfl ?_
          refine w_iload (pc' := 121) dX0_isTurned_119 rfl rfl ?_
          refine w_bald (pc' := 122) dX0_isTurned_121 rfl ak t0 (by omega) ?_
          -- at 122: .aaload
          rw [c1]
          refine w_aaldM (pc' := 123) dX0_isTurned_122 rfl s26 hkc.1 (by omega) ?_
          refine w_aload (pc' := 125) dX0_isTurned_123 rfl rfl ?_
          refine w_get 1 (pc' := 128) dX0_isTurned_125 rfl fX0_194_5 ro rfl ?_
          refine w_iload (pc' := 130) dX0_isTurned_128 rfl rfl ?_
          refine w_bald (pc' := 131) dX0_isTurned_130 rfl am t0 (by omega) ?_
          -- at 131: .iconst 1
          rw [c2]
          refine w_iconst (pc' := 132) dX0_isTurned_131 rfl (by decide) ?_
          refine w_zast (pc' := 133) dX0_isTurned_132 rfl g1 hmc.1 (by omega) (Or.inr rfl) ?_
          -- at 133: .iinc 6 1
          refine w_upd (fun G3 a3 f3 => ?_)
          have bb3 := bbd_t s2 g1 a3 f3
          refine nxt G3 (fun k' m' => N k' m' ∨ k' = kOf c ∧ m' = mOf c) ?_
          rw [hS]
          refine ⟨fun q hq => (f3 q (fun z => hq (by rw [z]; exact ⟨rfl, rfl⟩))).trans (s1 q hq), bb3, fun k' m' y => ?_, fun i0' t0' a1 a2 a3 a4 => ?_⟩
          · rcases y with y | ⟨rfl, rfl⟩
            · exact s3 k' m' y
            · refine ⟨i, t, ⟨i0, i1⟩, ⟨t0, t1⟩, ?_⟩
              show σ.2 8 (60 * rw_ σ p i + t) ≠ 0 ∧ kOf (σ.2 8 (60 * rw_ σ p i + t)) = kOf c ∧ mOf (σ.2 8 (60 * rw_ σ p i + t)) = mOf c
              rw [hcc]
              exact ⟨by assumption, rfl, rfl⟩
          · by_cases e : i0' = i ∧ t0' = t
            · rw [e.1, e.2, hcc]
              exact Or.inr ⟨rfl, rfl⟩
            · exact Or.inl (s4 i0' t0' a1 a2 (by omega) a4)
  have hz6 := hz0.1
  refine w_aload_n (pc' := 1) dX0_isTurned_0 rfl rfl ?_
  refine w_get 9 (pc' := 4) dX0_isTurned_1 rfl fX0_33_0 hof0 rfl ?_
  refine w_ast4 (pc' := 6) dX0_isTurned_4 rfl rfl ?_
  refine w_aload (pc' := 8) dX0_isTurned_6 rfl rfl ?_
  -- at 8: .arraylength
  refine w_alenR (pc' := 9) dX0_isTurned_8 rfl hz6 ?_
  refine w_ist5 (pc' := 11) dX0_isTurned_9 rfl rfl ?_
  refine w_iconst (pc' := 12) dX0_isTurned_11 rfl (by decide) ?_
  refine w_ist6 (pc' := 14) dX0_isTurned_12 rfl rfl ?_
  -- at 14: .iload 6
  refine up (T := fun i => 0 ≤ i → ∀ (v7 v8 : Option XV) (G1 : GH), (∀ q : Rl, ¬ (q.1 = 7 ∧ q.2.1 = 0) → G1 q = G q) → zbd G1 0 i 0 → tvW mX0_isTurned (d + 5) K 14 [some (xR oR), some (xR (pO p)), some (xR (uO r)), some (xI n), (some (xR (6, 0, 0))), (some (xI 40)), (some (xI i)), v7, v8, none] [] G1 3200 12600) 40 (by omega) ?_ ?_ (Int.le_refl _) none none G (fun _ _ => rfl) hz0
  · intro _ v7 v8 G1 f1 z
    refine w_iload (pc' := 16) dX0_isTurned_14 rfl rfl ?_
    refine w_iload (pc' := 18) dX0_isTurned_16 rfl rfl ?_
    -- at 18: .if_icmp .ge 38
    refine w_icmp_ge (pc' := 21) (tgt := 56) dX0_isTurned_18 rfl rfl (fun h_ => ?_) (fun h_ => False.elim (by first | omega | (simp (decide := true) only [au_1, nu_2, au_lt, nu_lt, aw_e, nw_e, au_s, au_n, nu_s, nu_n, au_au, nu_nu, au_nu] at h_; omega)))
    refine two G1 _ _ _ _ _ ?_
    rw [hS]
    exact ⟨f1, zbd_b z, fun _ _ y => y.elim, fun i0 t0 a1 a2 a3 => by omega⟩
  · intro i i0 i1 ih _ v7 v8 G1 f1 z
    have z6 := z.1
    refine w_iload (pc' := 16) dX0_isTurned_14 rfl rfl ?_
    refine w_iload (pc' := 18) dX0_isTurned_16 rfl rfl ?_
    -- at 18: .if_icmp .ge 38
    refine w_icmp_ge (pc' := 21) (tgt := 56) dX0_isTurned_18 rfl rfl (fun h_ => False.elim (by first | omega | (simp (decide := true) only [au_1, nu_2, au_lt, nu_lt, aw_e, nw_e, au_s, au_n, nu_s, nu_n, au_au, nu_nu, au_nu] at h_; omega))) (fun h_ => ?_)
    refine w_aload (pc' := 23) dX0_isTurned_21 rfl rfl ?_
    refine w_iload (pc' := 25) dX0_isTurned_23 rfl rfl ?_
    refine w_aaldM (pc' := 26) dX0_isTurned_25 rfl z6 i0 (by omega) ?_
    refine w_ast7 (pc' := 28) dX0_isTurned_26 rfl rfl ?_
    refine w_iconst (pc' := 29) dX0_isTurned_28 rfl (by decide) ?_
    refine w_ist8 (pc' := 31) dX0_isTurned_29 rfl rfl ?_
    -- at 31: .iload 8
    refine up (T := fun j => 0 ≤ j → ∀ (G1 : GH), (∀ q : Rl, ¬ (q.1 = 7 ∧ q.2.1 = 0) → G1 q = G q) → zbd G1 0 i j → tvW mX0_isTurned (d + 5) K 31 [some (xR oR), some (xR (pO p)), some (xR (uO r)), some (xI n), (some (xR (6, 0, 0))), (some (xI 40)), (some (xI i)), (some (xR (7, 0, i))), (some (xI j)), none] [] G1 3200 12600) 8 (by omega) ?_ ?_ (Int.le_refl _) G1 f1 z
    · intro _ G1 f1 z
      refine w_iload (pc' := 33) dX0_isTurned_31 rfl rfl ?_
      refine w_bipush (pc' := 35) dX0_isTurned_33 rfl (by decide +kernel) (by decide) ?_
      -- at 35: .if_icmp .ge 15
      refine w_icmp_ge (pc' := 38) (tgt := 50) dX0_isTurned_35 rfl rfl (fun h_ => ?_) (fun h_ => False.elim (by first | omega | (simp (decide := true) only [au_1, nu_2, au_lt, nu_lt, aw_e, nw_e, au_s, au_n, nu_s, nu_n, au_au, nu_nu, au_nu] at h_; omega)))
      refine w_inc6 (pc' := 53) dX0_isTurned_50 rfl rfl ⟨by first | omega | (simp (decide := true) only [au_1, nu_2, au_lt, nu_lt, aw_e, nw_e, au_s, au_n, nu_s, nu_n, au_au, nu_nu, au_nu]; omega), by first | omega | (simp (decide := true) only [au_1, nu_2, au_lt, nu_lt, aw_e, nw_e, au_s, au_n, nu_s, nu_n, au_au, nu_nu, au_nu]; omega)⟩ ?_
      refine w_goto (tgt := 14) dX0_isTurned_53 rfl ?_
      -- at 14: .iload 6
      exact ih (by omega) _ _ G1 f1 (zbd_n z)
    · intro j j0 j1 ihj _ G1 f1 z
      obtain ⟨g, g1, -⟩ := z.2 i i0 i1
      refine w_iload (pc' := 33) dX0_isTurned_31 rfl rfl ?_
      refine w_bipush (pc' := 35) dX0_isTurned_33 rfl (by decide +kernel) (by decide) ?_
      -- at 35: .if_icmp .ge 15
      refine w_icmp_ge (pc' := 38) (tgt := 50) dX0_isTurned_35 rfl rfl (fun h_ => False.elim (by first | omega | (simp (decide := true) only [au_1, nu_2, au_lt, nu_lt, aw_e, nw_e, au_s, au_n, nu_s, nu_n, au_au, nu_nu, au_nu] at h_; omega))) (fun h_ => ?_)
      refine w_aload (pc' := 40) dX0_isTurned_38 rfl rfl ?_
      refine w_iload (pc' := 42) dX0_isTurned_40 rfl rfl ?_
      refine w_iconst (pc' := 43) dX0_isTurned_42 rfl (by decide) ?_
      refine w_zast (pc' := 44) dX0_isTurned_43 rfl g1 j0 (by omega) (Or.inl rfl) ?_
      -- at 44: .iinc 8 1
      refine w_upd (fun G2 a2 f2 => ?_)
      refine w_inc8 (pc' := 47) dX0_isTurned_44 rfl rfl ⟨by first | omega | (simp (decide := true) only [au_1, nu_2, au_lt, nu_lt, aw_e, nw_e, au_s, au_n, nu_s, nu_n, au_au, nu_nu, au_nu]; omega), by first | omega | (simp (decide := true) only [au_1, nu_2, au_lt, nu_lt, aw_e, nw_e, au_s, au_n, nu_s, nu_n, au_au, nu_nu, au_nu]; omega)⟩ ?_
      refine w_goto (tgt := 31) dX0_isTurned_47 rfl ?_
      -- at 31: .iload 8
      exact ihj (by omega) G2 (fun q hq => (f2 q (fun z => hq (by rw [z]; exact ⟨rfl, rfl⟩))).trans (f1 q hq)) (zbd_s z g1 a2 f2)
theorem c_X0_canGrow {p r n : Int} (hw : Rx σ w G) (hK : kok σ) (hR : rok σ) (hP : pok σ) (hQ : qok σ) (hp : 0 ≤ p ∧ p < σ.1 12) (hr : 0 ≤ r ∧ r < σ.1 29) (hn : 0 ≤ n ∧ n ≤ 5) (h1 : cgOk σ p r n.toNat → ∀ G', sfr r G G' → Rx σ w G' → K (some (xI 1)) G') (h0 : ¬ cgOk σ p r n.toNat → ∀ G', sfr r G G' → Rx σ w G' → K (some (xI 0)) G') : tvW mX0_canGrow (d + 6) K 0 [some (xR oR), some (xR (pO p)), some (xR (uO r)), some (xI n), none, none, none, none, none, none] [] G 3200 12600 := by
  unfold cgOk at h1 h0
  have hq := hQ.2 r hr.1 hr.2
  have hof0 := hw.1
  unfold off at hof0
  obtain ⟨H, W, eH, eW, hU⟩ := hw.2.2.2.2.2.2.1.2 r hr.1 hr.2
  obtain ⟨hPo, -⟩ := hw.2.2.2.1.2 p hp.1 hp.2
  have hpr := Rx_prw hw hR hP hp.1 hp.2
  have hM := (hP.2 p hp.1 hp.2).1
  have hro := hU.1
  obtain ⟨lf, hlO⟩ := lst_o hpr.1
  have gM : ∀ s : Nat, s ≤ 5 → 0 ≤ gpM σ r (σ.2 11 p) s ∧ gpM σ r (σ.2 11 p) s ≤ 61440 ∧ 1 ≤ wdN σ r s ∧ wdN σ r s ≤ 1024 := by
    have key : ∀ s : Nat, 0 ≤ gpM σ r (σ.2 11 p) s ∧ gpM σ r (σ.2 11 p) s ≤ 60 * 4 ^ s ∧ 1 ≤ wdN σ r s ∧ wdN σ r s ≤ 4 ^ s := by
      intro s
      induction s with
      | zero => exact ⟨hM.1, by show σ.2 11 p ≤ 60 * 1; omega, Int.le_refl _, Int.le_refl _⟩
      | succ s ih =>
        obtain ⟨i1, i2, i3, i4⟩ := ih
        have e1 : gpM σ r (σ.2 11 p) (s + 1) = gpM σ r (σ.2 11 p) s * σ.2 26 r := rfl
        have e2 : wdN σ r (s + 1) = wdN σ r s * σ.2 27 r := rfl
        have y1 := Int.mul_le_mul i2 hq.1.2 (by omega) (by omega)
        have y2 := Int.mul_nonneg i1 (show 0 ≤ σ.2 26 r by omega)
        have y3 := Int.mul_le_mul i4 hq.2.1.2 (by omega) (by omega)
        have y4 := Int.mul_le_mul i3 hq.2.1.1 (by omega) (by omega)
        rw [e1, e2, Int.pow_succ]
        omega
    intro s hs
    obtain ⟨k1, k2, k3, k4⟩ := key s
    have : (4 : Int) ^ s ≤ 1024 := by
      have h5 : s = 0 ∨ s = 1 ∨ s = 2 ∨ s = 3 ∨ s = 4 ∨ s = 5 := by omega
      rcases h5 with rfl | rfl | rfl | rfl | rfl | rfl <;> decide
    omega
  have gN := gM n.toNat (by omega)
  refine w_aload_n (pc' := 1) dX0_canGrow_0 rfl rfl ?_
  refine w_get 0 (pc' := 4) dX0_canGrow_1 rfl fX0_140_3 hPo rfl ?_
  -- at 4: .invokevirtual 54
  refine w_callV0 (pc' := 7) (mc := 0) (ms := 0) dX0_canGrow_4 rfl tJ2_size q207 rfl rfl q208 q206 hlO rfl (Nat.le_of_ble_eq_true rfl) (Nat.le_of_ble_eq_true rfl) ?_
  refine c_J2_size hpr.1 ?_
  refine w_p1 ?_
  refine w_i2l (pc' := 8) dX0_canGrow_7 rfl ?_
  refine w_lst4 (pc' := 10) dX0_canGrow_8 rfl rfl ?_
  refine w_lconst (z := 1) (pc' := 11) dX0_canGrow_10 rfl rfl (by decide) ?_
  refine w_lst6 (pc' := 13) dX0_canGrow_11 rfl rfl ?_
  refine w_iconst (pc' := 14) dX0_canGrow_13 rfl (by decide) ?_
  refine w_ist8 (pc' := 16) dX0_canGrow_14 rfl rfl ?_
  -- at 16: .iload 8
  refine up (T := fun k => 0 ≤ k → tvW mX0_canGrow (d + 6) K 16 [some (xR oR), some (xR (pO p)), some (xR (uO r)), some (xI n), some (xL (gpM σ r (σ.2 11 p) k.toNat)), none, some (xL (wdN σ r k.toNat)), none, some (xI k), none] [] G 3200 12600) n hn.1 ?_ ?_ (Int.le_refl _)
  · intro _
    generalize hwd : wdN σ r n.toNat = wd at *
    generalize hgm : gpM σ r (σ.2 11 p) n.toNat = gm at *
    refine w_iload (pc' := 18) dX0_canGrow_16 rfl rfl ?_
    refine w_iload_n (pc' := 19) dX0_canGrow_18 rfl rfl ?_
    -- at 19: .if_icmp .ge 29
    refine w_icmp_ge (pc' := 22) (tgt := 48) dX0_canGrow_19 rfl rfl (fun h_ => ?_) (fun h_ => False.elim (by first | omega | (simp (decide := true) only [au_1, nu_2, au_lt, nu_lt, aw_e, nw_e, au_s, au_n, nu_s, nu_n, au_au, nu_nu, au_nu] at h_; omega)))
    refine w_lload (pc' := 50) dX0_canGrow_48 rfl rfl ?_
    refine w_ldc2 (z := 60) (pc' := 53) dX0_canGrow_50 rfl q651 (by decide +kernel) (by decide) ?_
    refine w_lcmp (pc' := 54) dX0_canGrow_53 rfl ?_
    -- at 54: .ifCond .le 5
    refine w_if_le (pc' := 57) (tgt := 59) dX0_canGrow_54 rfl rfl (fun q1 => ?_) (fun q1 => ?_)
    · have q1 := lCmp_le.mp q1
      refine w_iconst (pc' := 60) dX0_canGrow_59 rfl (by decide) ?_
      refine w_ist8 (pc' := 62) dX0_canGrow_60 rfl rfl ?_
      -- at 62: .iload 8
      refine up (T := fun i => 0 ≤ i → ∀ v9 : Option XV, (∀ i0, 0 ≤ i0 → i0 < i → σ.2 6 (rw_ σ p i0) * wd ≤ 60 ∧ (if 0 ≤ σ.2 7 (rw_ σ p i0) then σ.2 7 (rw_ σ p i0) else -σ.2 7 (rw_ σ p i0)) * wd ≤ 30) → tvW mX0_canGrow (d + 6) K 62 [some (xR oR), some (xR (pO p)), some (xR (uO r)), some (xI n), some (xL gm), none, some (xL wd), none, some (xI i), v9] [] G 3200 12600) (σ.2 11 p) hM.1 ?_ ?_ (Int.le_refl _) none (fun i0 a1 a2 => by omega)
      · intro _ v9 hi
        refine w_iload (pc' := 64) dX0_canGrow_62 rfl rfl ?_
        refine w_aload_n (pc' := 65) dX0_canGrow_64 rfl rfl ?_
        refine w_get 0 (pc' := 68) dX0_canGrow_65 rfl fX0_140_3 hPo rfl ?_
        -- at 68: .invokevirtual 54
        refine w_callV0 (pc' := 71) (mc := 0) (ms := 0) dX0_canGrow_68 rfl tJ2_size q207 rfl rfl q208 q206 hlO rfl (Nat.le_of_ble_eq_true rfl) (Nat.le_of_ble_eq_true rfl) ?_
        refine c_J2_size hpr.1 ?_
        refine w_p1 ?_
        refine w_icmp_ge (pc' := 74) (tgt := 132) dX0_canGrow_71 rfl rfl (fun h_ => ?_) (fun h_ => False.elim (by first | omega | (simp (decide := true) only [au_1, nu_2, au_lt, nu_lt, aw_e, nw_e, au_s, au_n, nu_s, nu_n, au_au, nu_nu, au_nu] at h_; omega)))
        refine w_aload_n (pc' := 133) dX0_canGrow_132 rfl rfl ?_
        refine w_get 0 (pc' := 136) dX0_canGrow_133 rfl fX0_229_7 hro rfl ?_
        refine w_aload_n (pc' := 137) dX0_canGrow_136 rfl rfl ?_
        refine w_get 1 (pc' := 140) dX0_canGrow_137 rfl fX0_231_7 hro rfl ?_
        -- at 140: .if_icmp .eq 13
        refine w_icmp_eq (pc' := 143) (tgt := 153) dX0_canGrow_140 rfl rfl (fun q2 => ?_) (fun q2 => ?_)
        · refine w_iconst (pc' := 154) dX0_canGrow_153 rfl (by decide) ?_
          refine w_goto (tgt := 158) dX0_canGrow_154 rfl ?_
          -- at 158: .ireturn
          refine w_zreturn dX0_canGrow_158 rfl (by first | exact Or.inl rfl | exact Or.inr rfl | omega) ?_
          exact h1 ⟨q1, hi, Or.inl (by omega)⟩ G (fun _ _ _ _ => rfl) hw
        · refine w_aload_n (pc' := 144) dX0_canGrow_143 rfl rfl ?_
          refine w_aload_n (pc' := 145) dX0_canGrow_144 rfl rfl ?_
          refine w_aload_n (pc' := 146) dX0_canGrow_145 rfl rfl ?_
          refine w_iload_n (pc' := 147) dX0_canGrow_146 rfl rfl ?_
          -- at 147: .invokevirtual 246
          refine w_callV3 (pc' := 150) (mc := 3200) (ms := 12600) dX0_canGrow_147 rfl tX0_isTurned q658 rfl rfl qs12 q656 hof0 rfl (Nat.le_of_ble_eq_true rfl) (Nat.le_of_ble_eq_true rfl) ?_
          refine c_X0_isTurned hw hK hR hP hQ hp hr hn (fun ht G1 f1 w1 => w_p1 ?_) (fun ht G1 f1 w1 => w_p1 ?_)
          · refine w_if_ne (pc' := 153) (tgt := 157) dX0_canGrow_150 rfl rfl (fun h_ => ?_) (fun h_ => False.elim (by first | omega | (simp (decide := true) only [au_1, nu_2, au_lt, nu_lt, aw_e, nw_e, au_s, au_n, nu_s, nu_n, au_au, nu_nu, au_nu] at h_; omega)))
            refine w_iconst (pc' := 158) dX0_canGrow_157 rfl (by decide) ?_
            -- at 158: .ireturn
            refine w_zreturn dX0_canGrow_158 rfl (by first | exact Or.inl rfl | exact Or.inr rfl | omega) ?_
            refine h0 (fun z => ?_) G1 f1 w1
            rcases z.2.2 with z | z
            · omega
            · exact z (by rw [show ((n.toNat : Nat) : Int) = n by omega]; exact ht)
          · refine w_if_ne (pc' := 153) (tgt := 157) dX0_canGrow_150 rfl rfl (fun h_ => False.elim (by first | omega | (simp (decide := true) only [au_1, nu_2, au_lt, nu_lt, aw_e, nw_e, au_s, au_n, nu_s, nu_n, au_au, nu_nu, au_nu] at h_; omega))) (fun h_ => ?_)
            refine w_iconst (pc' := 154) dX0_canGrow_153 rfl (by decide) ?_
            refine w_goto (tgt := 158) dX0_canGrow_154 rfl ?_
            -- at 158: .ireturn
            refine w_zreturn dX0_canGrow_158 rfl (by first | exact Or.inl rfl | exact Or.inr rfl | omega) ?_
            exact h1 ⟨q1, hi, Or.inr (by rw [show ((n.toNat : Nat) : Int) = n by omega]; exact ht)⟩ G1 f1 w1
      · intro i i0 i1 ih _ v9 hi
        obtain ⟨⟨ro, nn, fk, fm, fs, hnn, ak, -⟩, hL, hO⟩ := hpr.2 i i0 i1
        simp only [] at hnn ro hL hO
        have y1 := mlr hL.1 hL.2 (show 0 ≤ wd by omega) gN.2.2.2
        have bad : (¬ (σ.2 6 (rw_ σ p i) * wd ≤ 60 ∧ (if 0 ≤ σ.2 7 (rw_ σ p i) then σ.2 7 (rw_ σ p i) else -σ.2 7 (rw_ σ p i)) * wd ≤ 30)) → tvW mX0_canGrow (d + 6) K 124 [some (xR oR), some (xR (pO p)), some (xR (uO r)), some (xI n), some (xL gm), none, some (xL wd), none, some (xI i), some (xR (rO (rw_ σ p i)))] [] G 3200 12600 := by
          intro q
          refine w_iconst (pc' := 125) dX0_canGrow_124 rfl (by decide) ?_
          -- at 125: .ireturn
          refine w_zreturn dX0_canGrow_125 rfl (by first | exact Or.inl rfl | exact Or.inr rfl | omega) ?_
          exact h0 (fun z => q (z.2.1 i i0 i1)) G (fun _ _ _ _ => rfl) hw
        have habs : ∃ A, A = (if 0 ≤ σ.2 7 (rw_ σ p i) then σ.2 7 (rw_ σ p i) else -σ.2 7 (rw_ σ p i)) := ⟨_, rfl⟩
        obtain ⟨A, hA⟩ := habs
        have hA2 : 0 ≤ A ∧ A ≤ 30 := by rw [hA]; split <;> omega
        have y2 := mlr hA2.1 hA2.2 (show 0 ≤ wd by omega) gN.2.2.2
        have l1 := lMul_of (a := σ.2 6 (rw_ σ p i)) (b := wd) ⟨by omega, by omega⟩
        have l2 := lMul_of (a := A) (b := wd) ⟨by omega, by omega⟩
        rw [← hA] at bad
        refine w_iload (pc' := 64) dX0_canGrow_62 rfl rfl ?_
        refine w_aload_n (pc' := 65) dX0_canGrow_64 rfl rfl ?_
        refine w_get 0 (pc' := 68) dX0_canGrow_65 rfl fX0_140_3 hPo rfl ?_
        -- at 68: .invokevirtual 54
        refine w_callV0 (pc' := 71) (mc := 0) (ms := 0) dX0_canGrow_68 rfl tJ2_size q207 rfl rfl q208 q206 hlO rfl (Nat.le_of_ble_eq_true rfl) (Nat.le_of_ble_eq_true rfl) ?_
        refine c_J2_size hpr.1 ?_
        refine w_p1 ?_
        refine w_icmp_ge (pc' := 74) (tgt := 132) dX0_canGrow_71 rfl rfl (fun h_ => False.elim (by first | omega | (simp (decide := true) only [au_1, nu_2, au_lt, nu_lt, aw_e, nw_e, au_s, au_n, nu_s, nu_n, au_au, nu_nu, au_nu] at h_; omega))) (fun h_ => ?_)
        refine w_aload_n (pc' := 75) dX0_canGrow_74 rfl rfl ?_
        refine w_get 0 (pc' := 78) dX0_canGrow_75 rfl fX0_140_3 hPo rfl ?_
        refine w_iload (pc' := 80) dX0_canGrow_78 rfl rfl ?_
        -- at 80: .invokevirtual 58
        refine w_callV1 (pc' := 83) (mc := 0) (ms := 0) dX0_canGrow_80 rfl tJ2_get q211 rfl rfl q212 q210 hlO rfl (Nat.le_of_ble_eq_true rfl) (Nat.le_of_ble_eq_true rfl) ?_
        refine c_J2_get hpr.1 ⟨i0, i1⟩ ?_
        refine w_p1 ?_
        refine w_cast (pc' := 86) dX0_canGrow_83 rfl ro rfl q425 ?_
        refine w_ast9 (pc' := 88) dX0_canGrow_86 rfl rfl ?_
        refine w_aload (pc' := 90) dX0_canGrow_88 rfl rfl ?_
        refine w_get 0 (pc' := 93) dX0_canGrow_90 rfl fX0_187_5 ro rfl ?_
        refine w_alen (pc' := 94) dX0_canGrow_93 rfl ak ?_
        -- at 94: .i2l
        rw [hnn]
        refine w_i2l (pc' := 95) dX0_canGrow_94 rfl ?_
        refine w_lload (pc' := 97) dX0_canGrow_95 rfl rfl ?_
        refine w_lmul (pc' := 98) dX0_canGrow_97 rfl ?_
        -- at 98: .ldc2_w 237
        rw [l1]
        refine w_ldc2 (z := 60) (pc' := 101) dX0_canGrow_98 rfl q651 (by decide +kernel) (by decide) ?_
        refine w_lcmp (pc' := 102) dX0_canGrow_101 rfl ?_
        -- at 102: .ifCond .gt 22
        refine w_if_gt (pc' := 105) (tgt := 124) dX0_canGrow_102 rfl rfl (fun q2 => ?_) (fun q2 => ?_)
        · have q2 := lCmp_gt.mp q2
          exact bad (fun z => by omega)
        · have q2 := lCmp_le.mp (show lCmp _ _ ≤ 0 by omega)
          refine w_aload (pc' := 107) dX0_canGrow_105 rfl rfl ?_
          refine w_get 3 (pc' := 110) dX0_canGrow_107 rfl fX0_181_5 ro rfl ?_
          refine w_mabs (pc' := 113) dX0_canGrow_110 rfl q652 ⟨by first | omega | (simp (decide := true) only [au_1, nu_2, au_lt, nu_lt, aw_e, nw_e, au_s, au_n, nu_s, nu_n, au_au, nu_nu, au_nu]; omega), by first | omega | (simp (decide := true) only [au_1, nu_2, au_lt, nu_lt, aw_e, nw_e, au_s, au_n, nu_s, nu_n, au_au, nu_nu, au_nu]; omega)⟩ (Nat.le_of_ble_eq_true rfl) ?_
          -- at 113: .i2l
          rw [← hA]
          refine w_i2l (pc' := 114) dX0_canGrow_113 rfl ?_
          refine w_lload (pc' := 116) dX0_canGrow_114 rfl rfl ?_
          refine w_lmul (pc' := 117) dX0_canGrow_116 rfl ?_
          -- at 117: .ldc2_w 244
          rw [l2]
          refine w_ldc2 (z := 30) (pc' := 120) dX0_canGrow_117 rfl q655 (by decide +kernel) (by decide) ?_
          refine w_lcmp (pc' := 121) dX0_canGrow_120 rfl ?_
          -- at 121: .ifCond .le 5
          refine w_if_le (pc' := 124) (tgt := 126) dX0_canGrow_121 rfl rfl (fun q3 => ?_) (fun q3 => ?_)
          · have q3 := lCmp_le.mp q3
            refine w_inc8 (pc' := 129) dX0_canGrow_126 rfl rfl ⟨by first | omega | (simp (decide := true) only [au_1, nu_2, au_lt, nu_lt, aw_e, nw_e, au_s, au_n, nu_s, nu_n, au_au, nu_nu, au_nu]; omega), by first | omega | (simp (decide := true) only [au_1, nu_2, au_lt, nu_lt, aw_e, nw_e, au_s, au_n, nu_s, nu_n, au_au, nu_nu, au_nu]; omega)⟩ ?_
            refine w_goto (tgt := 62) dX0_canGrow_129 rfl ?_
            -- at 62: .iload 8
            refine ih (by omega) _ (fun i0' a1 a2 => ?_)
            by_cases e : i0' = i
            · rw [e, ← hA]
              exact ⟨q2, q3⟩
            · exact hi i0' a1 (by omega)
          · have q3 := lCmp_gt.mp (show 0 < lCmp _ _ by omega)
            exact bad (fun z => by omega)
    · have q1 := lCmp_gt.mp (show 0 < lCmp _ _ by omega)
      refine w_iconst (pc' := 58) dX0_canGrow_57 rfl (by decide) ?_
      -- at 58: .ireturn
      refine w_zreturn dX0_canGrow_58 rfl (by first | exact Or.inl rfl | exact Or.inr rfl | omega) ?_
      exact h0 (fun z => by have := z.1; omega) G (fun _ _ _ _ => rfl) hw
  · intro k k0 k1 ih _
    obtain ⟨a1, a2, a3, a4⟩ := gM k.toNat (by omega)
    have b0 := gM (k.toNat + 1) (by omega)
    have e1 : gpM σ r (σ.2 11 p) (k + 1).toNat = gpM σ r (σ.2 11 p) k.toNat * σ.2 26 r := by rw [show (k + 1).toNat = k.toNat + 1 by omega]; rfl
    have e2 : wdN σ r (k + 1).toNat = wdN σ r k.toNat * σ.2 27 r := by rw [show (k + 1).toNat = k.toNat + 1 by omega]; rfl
    rw [e1, e2, ← eH, ← eW] at ih
    rw [show k.toNat + 1 = (k + 1).toNat by omega, e1, e2, ← eH, ← eW] at b0
    have l1 := lMul_of (a := gpM σ r (σ.2 11 p) k.toNat) (b := (H : Int)) ⟨by omega, by omega⟩
    have l2 := lMul_of (a := wdN σ r k.toNat) (b := (W : Int)) ⟨by omega, by omega⟩
    refine w_iload (pc' := 18) dX0_canGrow_16 rfl rfl ?_
    refine w_iload_n (pc' := 19) dX0_canGrow_18 rfl rfl ?_
    -- at 19: .if_icmp .ge 29
    refine w_icmp_ge (pc' := 22) (tgt := 48) dX0_canGrow_19 rfl rfl (fun h_ => False.elim (by first | omega | (simp (decide := true) only [au_1, nu_2, au_lt, nu_lt, aw_e, nw_e, au_s, au_n, nu_s, nu_n, au_au, nu_nu, au_nu] at h_; omega))) (fun h_ => ?_)
    refine w_lload (pc' := 24) dX0_canGrow_22 rfl rfl ?_
    refine w_aload_n (pc' := 25) dX0_canGrow_24 rfl rfl ?_
    refine w_get 0 (pc' := 28) dX0_canGrow_25 rfl fX0_229_7 hro rfl ?_
    refine w_i2l (pc' := 29) dX0_canGrow_28 rfl ?_
    refine w_lmul (pc' := 30) dX0_canGrow_29 rfl ?_
    -- at 30: .lstore 4
    rw [l1]
    refine w_lst4 (pc' := 32) dX0_canGrow_30 rfl rfl ?_
    refine w_lload (pc' := 34) dX0_canGrow_32 rfl rfl ?_
    refine w_aload_n (pc' := 35) dX0_canGrow_34 rfl rfl ?_
    refine w_get 1 (pc' := 38) dX0_canGrow_35 rfl fX0_231_7 hro rfl ?_
    refine w_i2l (pc' := 39) dX0_canGrow_38 rfl ?_
    refine w_lmul (pc' := 40) dX0_canGrow_39 rfl ?_
    -- at 40: .lstore 6
    rw [l2]
    refine w_lst6 (pc' := 42) dX0_canGrow_40 rfl rfl ?_
    refine w_inc8 (pc' := 45) dX0_canGrow_42 rfl rfl ⟨by first | omega | (simp (decide := true) only [au_1, nu_2, au_lt, nu_lt, aw_e, nw_e, au_s, au_n, nu_s, nu_n, au_au, nu_nu, au_nu]; omega), by first | omega | (simp (decide := true) only [au_1, nu_2, au_lt, nu_lt, aw_e, nw_e, au_s, au_n, nu_s, nu_n, au_au, nu_nu, au_nu]; omega)⟩ ?_
    refine w_goto (tgt := 16) dX0_canGrow_45 rfl ?_
    -- at 16: .iload 8
    exact ih (by omega)
end
