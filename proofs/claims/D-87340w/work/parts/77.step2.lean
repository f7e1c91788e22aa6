set_option maxRecDepth 10000
section
variable {d : Nat} {K : Option XV → GH → Prop} {G : GH} {bc bs : Nat} {σ : MS}
/-- what is found so far -/
def stS (σ : MS) (r : Int) (H W : Nat) (L : Int → Int → Prop) (k m : Int) (G G1 : GH) (N : Int → Int → Prop) : Prop := (∀ q : Rl, ¬ (q.1 = 7 ∧ q.2.1 = 1) → q ≠ uA r → ¬ ((33 ≤ q.1 ∧ q.1 < 38) ∧ -(40 * r + 40) ≤ q.2.1 ∧ q.2.1 ≤ -1 - 40 * r) → G1 q = G q) ∧ rul G1 r H W (uB σ r) ∧ bbd G1 1 N ∧ (∀ k' m', N k' m' → lyS σ r L k' m') ∧ ∀ k0 m0 y x, (0 ≤ k0 ∧ k0 < σ.1 5) → (0 ≤ m0 ∧ m0 < 8) → L k0 m0 → (k0 < k ∨ k0 = k ∧ m0 < m) → (0 ≤ y ∧ y < σ.2 26 r) → (0 ≤ x ∧ x < σ.2 27 r) → uB σ r k0 y x ≠ 0 → N (kOf (uB σ r k0 y x)) (lie (σ.2 3 (kOf (uB σ r k0 y x))) (σ.2 1 (kOf (uB σ r k0 y x))) (thn (mOf (uB σ r k0 y x)) m0))
/-- at last the board is taken over -/
theorem c_X0_step_e {r u ma li : Int} {rg : Option Rl} {N : Int → Int → Prop} {v2 v3 v4 v5 v6 : Option XV} (hof : off G u ma li rg) (hz : zbd G 0 0 0) (hN : bbd G 1 N)
    (h : ∀ G', (∀ q : Rl, ¬ (q.1 = 7 ∧ q.2.1 = 0) → G' q = G q) → bbd G' 0 N → K none G') : tvW mX0_step (d + 4) K 212 [some (xR oR), some (xR (uO r)), v2, v3, v4, v5, v6] [] G bc bs := by
  have hst : ∃ S : Int → GH → Prop, S = fun k G1 => (∀ q : Rl, ¬ (q.1 = 7 ∧ q.2.1 = 0) → G1 q = G q) ∧ ∀ k' : Int, 0 ≤ k' → k' < 40 → ∃ g, G1 (7, 0, k') = some (xar 3 8 g) ∧ (k' < k → ∀ m : Int, 0 ≤ m → m < 8 → g m = b1 (N k' m)) := ⟨_, rfl⟩
  obtain ⟨S, hS⟩ := hst
  refine w_iconst (pc' := 213) dX0_step_212 rfl (by decide) ?_
  refine w_ist2 (pc' := 214) dX0_step_213 rfl rfl ?_
  -- at 214: .iload_n 2
  refine up (T := fun k => 0 ≤ k → ∀ (G1 : GH), S k G1 → tvW mX0_step (d + 4) K 214 [some (xR oR), some (xR (uO r)), (some (xI k)), v3, v4, v5, v6] [] G1 bc bs) 40 (by omega) ?_ ?_ (Int.le_refl _) G ?_
  · intro _ G1 s
    rw [hS] at s
    refine w_iload_n (pc' := 215) dX0_step_214 rfl rfl ?_
    refine w_bipush (pc' := 217) dX0_step_215 rfl (by decide +kernel) (by decide) ?_
    -- at 217: .if_icmp .ge 28
    refine w_icmp_ge (pc' := 220) (tgt := 245) dX0_step_217 rfl rfl (fun h_ => ?_) (fun h_ => False.elim (by first | omega | (simp (decide := true) only [au_1, nu_2, au_lt, nu_lt, aw_e, nw_e, au_s, au_n, nu_s, nu_n, au_au, nu_nu, au_nu] at h_; omega)))
    refine w_return dX0_step_245 rfl ?_
    refine h G1 s.1 ⟨(s.1 _ (by simp only []; omega)).trans hz.1, fun k k0 k1 => ?_⟩
    obtain ⟨g, g1, g2⟩ := s.2 k k0 k1
    exact ⟨g, g1, g2 k1⟩
  · intro k k0 k1 ih _ G1 s
    rw [hS] at s
    obtain ⟨s1, s2⟩ := s
    have hof1 := (s1 oR (by simp only []; omega)).trans hof
    unfold off at hof1
    have hz1 := (s1 (6, 0, 0) (by simp only []; omega)).trans hz.1
    have hN1 := (s1 (6, 1, 0) (by simp only []; omega)).trans hN.1
    obtain ⟨g, g1, -⟩ := s2 k k0 k1
    obtain ⟨gn, gn1, gn2⟩ := hN.2 k k0 k1
    have gn1 := (s1 (7, 1, k) (by simp only []; omega)).trans gn1
    refine w_iload_n (pc' := 215) dX0_step_214 rfl rfl ?_
    refine w_bipush (pc' := 217) dX0_step_215 rfl (by decide +kernel) (by decide) ?_
    -- at 217: .if_icmp .ge 28
    refine w_icmp_ge (pc' := 220) (tgt := 245) dX0_step_217 rfl rfl (fun h_ => False.elim (by first | omega | (simp (decide := true) only [au_1, nu_2, au_lt, nu_lt, aw_e, nw_e, au_s, au_n, nu_s, nu_n, au_au, nu_nu, au_nu] at h_; omega))) (fun h_ => ?_)
    refine w_aload_n (pc' := 221) dX0_step_220 rfl rfl ?_
    refine w_get 10 (pc' := 224) dX0_step_221 rfl fX0_36_0 hof1 rfl ?_
    refine w_iload_n (pc' := 225) dX0_step_224 rfl rfl ?_
    refine w_aaldM (pc' := 226) dX0_step_225 rfl hN1 k0 (by omega) ?_
    refine w_iconst (pc' := 227) dX0_step_226 rfl (by decide) ?_
    refine w_aload_n (pc' := 228) dX0_step_227 rfl rfl ?_
    refine w_get 9 (pc' := 231) dX0_step_228 rfl fX0_33_0 hof1 rfl ?_
    refine w_iload_n (pc' := 232) dX0_step_231 rfl rfl ?_
    refine w_aaldM (pc' := 233) dX0_step_232 rfl hz1 k0 (by omega) ?_
    refine w_iconst (pc' := 234) dX0_step_233 rfl (by decide) ?_
    refine w_bipush (pc' := 236) dX0_step_234 rfl (by decide +kernel) (by decide) ?_
    -- at 236: .invokestatic 126
    refine w_acopyI (n0 := 8) (n1 := 8) (pc' := 239) dX0_step_236 rfl q385 (Or.inr rfl) gn1 g1 (by omega) (by omega) (by omega) (by omega) (by omega) (Nat.le_of_ble_eq_true rfl) ?_
    refine w_upd (fun G2 a2 f2 => ?_)
    refine w_inc2 (pc' := 242) dX0_step_239 rfl rfl ⟨by first | omega | (simp (decide := true) only [au_1, nu_2, au_lt, nu_lt, aw_e, nw_e, au_s, au_n, nu_s, nu_n, au_au, nu_nu, au_nu]; omega), by first | omega | (simp (decide := true) only [au_1, nu_2, au_lt, nu_lt, aw_e, nw_e, au_s, au_n, nu_s, nu_n, au_au, nu_nu, au_nu]; omega)⟩ ?_
    refine w_goto (tgt := 214) dX0_step_242 rfl ?_
    -- at 214: .iload_n 2
    refine ih (by omega) G2 ?_
    rw [hS]
    refine ⟨fun q hq => (f2 q (fun z => hq (by rw [z]; exact ⟨rfl, rfl⟩))).trans (s1 q hq), fun k' q0 q1 => ?_⟩
    by_cases e : k' = k
    · rw [e]
      refine ⟨_, a2, fun _ m m0 m1 => ?_⟩
      unfold icp
      rw [if_pos (by omega), show (0 : Int) + (m - 0) = m by omega]
      exact gn2 m m0 m1
    · obtain ⟨g', g1', g2'⟩ := s2 k' q0 q1
      exact ⟨g', (f2 _ (rl_ne (by omega))).trans g1', fun z => g2' (by omega)⟩
  · rw [hS]
    refine ⟨fun _ _ => rfl, fun k' q0 q1 => ?_⟩
    obtain ⟨g, g1, -⟩ := hz.2 k' q0 q1
    exact ⟨g, g1, fun z => by omega⟩
theorem c_X0_step {r u ma li : Int} {rg : Option Rl} {H W : Nat} {L : Int → Int → Prop} (hof : off G u ma li rg) (hkin : Rkin σ G) (hK : kok σ) (hQ : qok σ) (hr : 0 ≤ r ∧ r < σ.1 29) (hU : rul G r H W (uB σ r)) (eH : (H : Int) = σ.2 26 r) (eW : (W : Int) = σ.2 27 r) (hL : bbd G 0 L) (hN : zbd G 1 0 0)
    (h : ∀ G', sfr r G G' → rul G' r H W (uB σ r) → bbd G' 0 (lyS σ r L) → zbd G' 1 0 0 → K none G') : tvW mX0_step (d + 4) K 0 [some (xR oR), some (xR (uO r)), none, none, none, none, none] [] G 640 2520 := by
  have hq := hQ.2 r hr.1 hr.2
  have hk1 := hK.1
  have hof0 := hof
  unfold off at hof0
  have hN6 := hN.1
  have main : ∀ (G1 : GH) (v2 v3 v4 v5 v6 : Option XV), (∀ q : Rl, ¬ (q.1 = 7 ∧ q.2.1 = 1) → G1 q = G q) → bbd G1 1 (fun _ _ => False) → tvW mX0_step (d + 4) K 51 [some (xR oR), some (xR (uO r)), v2, v3, v4, v5, v6] [] G1 640 2520 := by
    intro G1 v2 v3 v4 v5 v6 f1 bn
    have hph := phi_r (G := G1) (r := r)
    have inv : ∀ k m G2 N, stS σ r H W L k m G G2 N → off G2 u ma li rg ∧ Rkin σ G2 ∧ bbd G2 0 L := by
      intro k m G2 N s
      have f := s.1
      refine ⟨(f oR (by simp only []; omega) (rl_ne (by omega)) (by simp only []; omega)).trans hof, Rkin_fr2 (fun z hz => f z (by omega) (fun y => by rw [y] at hz; simp only [] at hz; omega) (by omega)) hkin, bbd_fr (f _ (by simp only []; omega) (rl_ne (by omega)) (by simp only []; omega)) (fun k => f _ (by simp only []; omega) (rl_ne (by omega)) (by simp only []; omega)) hL⟩
    refine w_iconst (pc' := 52) dX0_step_51 rfl (by decide) ?_
    refine w_ist2 (pc' := 53) dX0_step_52 rfl rfl ?_
    -- at 53: .iload_n 2
    refine up (T := fun k => 0 ≤ k → ∀ (v3 v4 v5 v6 : Option XV) (G2 : GH) (N : Int → Int → Prop) (mc ms : Nat), stS σ r H W L k 0 G G2 N → 16 * phi G2 r ≤ mc → 63 * phi G2 r ≤ ms → tvW mX0_step (d + 4) K 53 [some (xR oR), some (xR (uO r)), (some (xI k)), v3, v4, v5, v6] [] G2 mc ms) (σ.1 5) (by omega) ?_ ?_ (Int.le_refl _) v3 v4 v5 v6 G1 _ 640 2520 ⟨fun q q1 _ _ => f1 q q1, rul_fr (f1 _ (by simp only []; omega)) (f1 _ (by simp only []; omega)) (fun k k0 k1 z z1 z2 => f1 z (by omega)) hU, bn, fun _ _ z => z.elim, fun k0 m0 y x a1 a2 a3 a4 => by omega⟩ (by omega) (by omega)
    · intro _ v3 v4 v5 v6 G2 N mc ms s _ _
      obtain ⟨i1, i2, i3⟩ := inv _ _ _ _ s
      have hof2 := i1
      unfold off at hof2
      obtain ⟨lf, hlO⟩ := lst_o i2.1
      obtain ⟨s1, s2, s3, s4, s5⟩ := s
      refine w_iload_n (pc' := 54) dX0_step_53 rfl rfl ?_
      refine w_aload_n (pc' := 55) dX0_step_54 rfl rfl ?_
      refine w_get 0 (pc' := 58) dX0_step_55 rfl fX0_10_0 hof2 rfl ?_
      -- at 58: .invokevirtual 54
      refine w_callV0 (pc' := 61) (mc := 0) (ms := 0) dX0_step_58 rfl tJ2_size q207 rfl rfl q208 q206 hlO rfl (Nat.le_of_ble_eq_true rfl) (Nat.le_of_ble_eq_true rfl) ?_
      refine c_J2_size i2.1 ?_
      refine w_p1 ?_
      refine w_icmp_ge (pc' := 64) (tgt := 212) dX0_step_61 rfl rfl (fun h_ => ?_) (fun h_ => False.elim (by first | omega | (simp (decide := true) only [au_1, nu_2, au_lt, nu_lt, aw_e, nw_e, au_s, au_n, nu_s, nu_n, au_au, nu_nu, au_nu] at h_; omega)))
      refine c_X0_step_e i1 (bbd_z i3) s3 (fun G3 f3 b3 => h G3 (fun q q1 q2 q3 => (f3 q (by omega)).trans (s1 q (by omega) q2 q3)) (rul_fr (f3 _ (by simp only []; omega)) (f3 _ (by simp only []; omega)) (fun k k0 k1 z z1 z2 => f3 z (by omega)) s2) (bbd_c (fun k m k0 k1 m0 m1 => ⟨s4 k m, ?_⟩) b3) (zbd_fr (f3 _ (by simp only []; omega)) (fun k => f3 _ (by simp only []; omega)) (bbd_z s3)))
      rintro ⟨k0', m0', y, x, a1, a2, a3, a4, a5, a6, a7, a8⟩
      have z := s5 k0' m0' y x a1 a2 a3 (by omega) a4 a5 a6
      rw [a7, a8] at z
      exact z
    · intro k k0 k1 ih _ v3 v4 v5 v6 G2 N mc ms s hmc hms
      have hof2 := (inv _ _ _ _ s).1
      unfold off at hof2
      have kin2 := (inv _ _ _ _ s).2.1
      obtain ⟨lf, hlO⟩ := lst_o kin2.1
      refine w_iload_n (pc' := 54) dX0_step_53 rfl rfl ?_
      refine w_aload_n (pc' := 55) dX0_step_54 rfl rfl ?_
      refine w_get 0 (pc' := 58) dX0_step_55 rfl fX0_10_0 hof2 rfl ?_
      -- at 58: .invokevirtual 54
      refine w_callV0 (pc' := 61) (mc := 0) (ms := 0) dX0_step_58 rfl tJ2_size q207 rfl rfl q208 q206 hlO rfl (Nat.le_of_ble_eq_true rfl) (Nat.le_of_ble_eq_true rfl) ?_
      refine c_J2_size kin2.1 ?_
      refine w_p1 ?_
      refine w_icmp_ge (pc' := 64) (tgt := 212) dX0_step_61 rfl rfl (fun h_ => False.elim (by first | omega | (simp (decide := true) only [au_1, nu_2, au_lt, nu_lt, aw_e, nw_e, au_s, au_n, nu_s, nu_n, au_au, nu_nu, au_nu] at h_; omega))) (fun h_ => ?_)
      refine w_iconst (pc' := 65) dX0_step_64 rfl (by decide) ?_
      refine w_ist3 (pc' := 66) dX0_step_65 rfl rfl ?_
      -- at 66: .iload_n 3
      refine up (T := fun m => 0 ≤ m → ∀ (v4 v5 v6 : Option XV) (G2 : GH) (N : Int → Int → Prop) (mc ms : Nat), stS σ r H W L k m G G2 N → 16 * phi G2 r ≤ mc → 63 * phi G2 r ≤ ms → tvW mX0_step (d + 4) K 66 [some (xR oR), some (xR (uO r)), (some (xI k)), (some (xI m)), v4, v5, v6] [] G2 mc ms) 8 (by omega) ?_ ?_ (Int.le_refl _) v4 v5 v6 G2 N mc ms s hmc hms
      · intro _ v4 v5 v6 G2 N mc ms s hmc hms
        refine w_iload_n (pc' := 67) dX0_step_66 rfl rfl ?_
        refine w_bipush (pc' := 69) dX0_step_67 rfl (by decide +kernel) (by decide) ?_
        -- at 69: .if_icmp .ge 137
        refine w_icmp_ge (pc' := 72) (tgt := 206) dX0_step_69 rfl rfl (fun h_ => ?_) (fun h_ => False.elim (by first | omega | (simp (decide := true) only [au_1, nu_2, au_lt, nu_lt, aw_e, nw_e, au_s, au_n, nu_s, nu_n, au_au, nu_nu, au_nu] at h_; omega)))
        refine w_inc2 (pc' := 209) dX0_step_206 rfl rfl ⟨by first | omega | (simp (decide := true) only [au_1, nu_2, au_lt, nu_lt, aw_e, nw_e, au_s, au_n, nu_s, nu_n, au_au, nu_nu, au_nu]; omega), by first | omega | (simp (decide := true) only [au_1, nu_2, au_lt, nu_lt, aw_e, nw_e, au_s, au_n, nu_s, nu_n, au_au, nu_nu, au_nu]; omega)⟩ ?_
        refine w_goto (tgt := 53) dX0_step_209 rfl ?_
        -- at 53: .iload_n 2
        refine ih (by omega) _ _ _ _ G2 N mc ms ⟨s.1, s.2.1, s.2.2.1, s.2.2.2.1, fun k0 m0 y x a1 a2 a3 a4 => s.2.2.2.2 k0 m0 y x a1 a2 a3 (by omega)⟩ hmc hms
      · intro m m0 m1 ihm _ v4 v5 v6 G2 N mc ms s hmc hms
        obtain ⟨i1, i2, i3⟩ := inv _ _ _ _ s
        have hof2 := i1
        unfold off at hof2
        obtain ⟨gl, gl1, gl2⟩ := i3.2 k k0 (by omega)
        have gl2 := gl2 m m0 m1
        have i36 := i3.1
        obtain ⟨s1, s2, s3, s4, s5⟩ := s
        refine w_iload_n (pc' := 67) dX0_step_66 rfl rfl ?_
        refine w_bipush (pc' := 69) dX0_step_67 rfl (by decide +kernel) (by decide) ?_
        -- at 69: .if_icmp .ge 137
        refine w_icmp_ge (pc' := 72) (tgt := 206) dX0_step_69 rfl rfl (fun h_ => False.elim (by first | omega | (simp (decide := true) only [au_1, nu_2, au_lt, nu_lt, aw_e, nw_e, au_s, au_n, nu_s, nu_n, au_au, nu_nu, au_nu] at h_; omega))) (fun h_ => ?_)
        refine w_aload_n (pc' := 73) dX0_step_72 rfl rfl ?_
        refine w_get 9 (pc' := 76) dX0_step_73 rfl fX0_33_0 hof2 rfl ?_
        refine w_iload_n (pc' := 77) dX0_step_76 rfl rfl ?_
        refine w_aaldM (pc' := 78) dX0_step_77 rfl i36 k0 (by omega) ?_
        refine w_iload_n (pc' := 79) dX0_step_78 rfl rfl ?_
        refine w_zald (pc' := 80) dX0_step_79 rfl gl1 m0 m1 ?_
        -- at 80: .ifCond .ne 6
        rw [gl2]
        by_cases hl : L k m
        · rw [b1_t hl]
          refine w_if_ne (pc' := 83) (tgt := 86) dX0_step_80 rfl rfl (fun h_ => ?_) (fun h_ => False.elim (by first | omega | (simp (decide := true) only [au_1, nu_2, au_lt, nu_lt, aw_e, nw_e, au_s, au_n, nu_s, nu_n, au_au, nu_nu, au_nu] at h_; omega)))
          have fin : ∀ (G3 : GH) (mc3 ms3 : Nat), ufr r k G2 G3 → rul G3 r H W (uB σ r) → (∃ fk fm fs, blo G3 (bid r k) H W fk fm fs ∧ ∀ i j : Int, 0 ≤ i → i < H → 0 ≤ j → j < W → fk i j = cdat (uB σ r k i j) 0 ∧ fm i j = cdat (uB σ r k i j) 1) → 16 * phi G3 r ≤ mc3 → 63 * phi G3 r ≤ ms3 → tvW mX0_step (d + 4) K 91 [some (xR oR), some (xR (uO r)), (some (xI k)), (some (xI m)), v4, v5, v6] [xR (33, bid r k, 0)] G3 mc3 ms3 := by
            intro G3 mc3 ms3 f3 u3 bl hmc3 hms3
            obtain ⟨fk, fm, fs, hb, hB⟩ := bl
            have f3' : ∀ q : Rl, q.1 ≠ 21 → ¬ (33 ≤ q.1 ∧ q.1 < 38) → G3 q = G2 q := fun q q1 q2 => f3 q (fun z => q1 (by rw [z])) (fun z => q2 z.1)
            refine w_ast4 (pc' := 93) dX0_step_91 rfl rfl ?_
            -- at 93: .iconst 0
            refine c_X0_step_b hb hB u3.1 eH eW hr hK hQ (Rkin_fr2 (fun z hz => f3' z (by omega) (by omega)) i2) ((f3' oR (by decide) (by decide)).trans i1) ⟨k0, by omega⟩ ⟨m0, m1⟩ (bbd_fr (f3' _ (by simp only []; omega) (by simp only []; omega)) (fun k => f3' _ (by simp only []; omega) (by simp only []; omega)) s3) (fun G4 N4 v5 v6 f4 b4 q1 q2 q3 => ?_)
            have hp4 : phi G4 r = phi G3 r := phi_c (fun z z1 _ _ => f4 z (by omega))
            refine w_inc3 (pc' := 203) dX0_step_200 rfl rfl ⟨by first | omega | (simp (decide := true) only [au_1, nu_2, au_lt, nu_lt, aw_e, nw_e, au_s, au_n, nu_s, nu_n, au_au, nu_nu, au_nu]; omega), by first | omega | (simp (decide := true) only [au_1, nu_2, au_lt, nu_lt, aw_e, nw_e, au_s, au_n, nu_s, nu_n, au_au, nu_nu, au_nu]; omega)⟩ ?_
            refine w_goto (tgt := 66) dX0_step_203 rfl ?_
            -- at 66: .iload_n 3
            refine ihm (by omega) _ _ _ G4 N4 mc3 ms3 ⟨fun q z1 z2 z3 => ?_, rul_fr (f4 _ (by simp only []; omega)) (f4 _ (by simp only []; omega)) (fun k k0 k1 z z1 z2 => f4 z (by omega)) u3, b4, fun k' m' z => ?_, fun k0' m0' y x a1 a2 a3 a4 a5 a6 a7 => ?_⟩ (by omega) (by omega)
            · rw [f4 q z1, f3 q z2 (fun z => z3 ⟨z.1, by have z4 : q.2.1 = -1 - (40 * r + k) := z.2; omega⟩), s1 q z1 z2 z3]
            · rcases q2 k' m' z with z | ⟨y, x, a1, a2, a3, a4, a5⟩
              · exact s4 k' m' z
              · exact ⟨k, m, y, x, ⟨k0, k1⟩, ⟨m0, m1⟩, hl, by rw [← eH]; exact a1, by rw [← eW]; exact a2, a3, a4, a5⟩
            · by_cases e : k0' = k ∧ m0' = m
              · obtain ⟨rfl, rfl⟩ := e
                exact q3 y x a5.1 (by omega) a6.1 (by omega) a7
              · exact q1 _ _ (s5 k0' m0' y x a1 a2 a3 (by omega) a5 a6 a7)
          have hro := s2.1
          by_cases hh : hasB G2 r k
          · refine w_aload_n (pc' := 87) dX0_step_86 rfl rfl ?_
            refine w_iload_n (pc' := 88) dX0_step_87 rfl rfl ?_
            -- at 88: .invokevirtual 233
            refine w_callV1 (pc' := 91) (mc := 0) (ms := 0) dX0_step_88 rfl tX8_block q639 rfl rfl q640 q638 hro rfl (Nat.le_of_ble_eq_true rfl) (Nat.le_of_ble_eq_true rfl) ?_
            refine c_X8_blockH s2 ⟨k0, by omega⟩ hh (fun bl => w_p1 ?_)
            exact fin G2 mc ms (fun _ _ _ => rfl) s2 bl hmc hms
          · have hp := phi_p k0 (by omega) hh
            obtain ⟨mc2, rfl⟩ : ∃ m', mc = m' + 16 := ⟨mc - 16, by omega⟩
            obtain ⟨ms2, rfl⟩ : ∃ m', ms = m' + 63 := ⟨ms - 63, by omega⟩
            refine w_aload_n (pc' := 87) dX0_step_86 rfl rfl ?_
            refine w_iload_n (pc' := 88) dX0_step_87 rfl rfl ?_
            -- at 88: .invokevirtual 233
            refine w_callV1 (pc' := 91) (mc := 16) (ms := 63) dX0_step_88 rfl tX8_block q639 rfl rfl q640 q638 hro rfl (Nat.le_of_ble_eq_true rfl) (Nat.le_of_ble_eq_true rfl) ?_
            refine c_X8_block s2 ⟨k0, by omega⟩ hr.1 (by omega) (by omega) (fun G3 f3 u3 bl => w_p1 ?_)
            have hb3 : hasB G3 r k := by
              obtain ⟨fk, fm, fs, hb, -⟩ := bl
              exact ⟨_, hb.1⟩
            have hps := (phi_s (r := r) k0 (by omega) (fun z z1 z2 => f3 z (fun y => by rw [y] at z1; simp only [] at z1; omega) (fun y => z2 y.2)) hb3).2 hh
            exact fin G3 mc2 ms2 f3 u3 bl (by omega) (by omega)
        · rw [b1_f hl]
          refine w_if_ne (pc' := 83) (tgt := 86) dX0_step_80 rfl rfl (fun h_ => False.elim (by first | omega | (simp (decide := true) only [au_1, nu_2, au_lt, nu_lt, aw_e, nw_e, au_s, au_n, nu_s, nu_n, au_au, nu_nu, au_nu] at h_; omega))) (fun h_ => ?_)
          refine w_goto (tgt := 200) dX0_step_83 rfl ?_
          refine w_inc3 (pc' := 203) dX0_step_200 rfl rfl ⟨by first | omega | (simp (decide := true) only [au_1, nu_2, au_lt, nu_lt, aw_e, nw_e, au_s, au_n, nu_s, nu_n, au_au, nu_nu, au_nu]; omega), by first | omega | (simp (decide := true) only [au_1, nu_2, au_lt, nu_lt, aw_e, nw_e, au_s, au_n, nu_s, nu_n, au_au, nu_nu, au_nu]; omega)⟩ ?_
          refine w_goto (tgt := 66) dX0_step_203 rfl ?_
          -- at 66: .iload_n 3
          refine ihm (by omega) _ _ _ G2 N mc ms ⟨s1, s2, s3, s4, fun k0' m0' y x a1 a2 a3 a4 a5 a6 a7 => ?_⟩ hmc hms
          by_cases e : k0' = k ∧ m0' = m
          · rw [e.1, e.2] at a3
            exact absurd a3 hl
          · exact s5 k0' m0' y x a1 a2 a3 (by omega) a5 a6 a7
  refine w_aload_n (pc' := 1) dX0_step_0 rfl rfl ?_
  refine w_get 10 (pc' := 4) dX0_step_1 rfl fX0_36_0 hof0 rfl ?_
  refine w_ast2 (pc' := 5) dX0_step_4 rfl rfl ?_
  refine w_aload_n (pc' := 6) dX0_step_5 rfl rfl ?_
  -- at 6: .arraylength
  refine w_alenR (pc' := 7) dX0_step_6 rfl hN6 ?_
  refine w_ist3 (pc' := 8) dX0_step_7 rfl rfl ?_
  refine w_iconst (pc' := 9) dX0_step_8 rfl (by decide) ?_
  refine w_ist4 (pc' := 11) dX0_step_9 rfl rfl ?_
  -- at 11: .iload 4
  refine up (T := fun i => 0 ≤ i → ∀ (v5 v6 : Option XV) (G1 : GH), (∀ q : Rl, ¬ (q.1 = 7 ∧ q.2.1 = 1) → G1 q = G q) → zbd G1 1 i 0 → tvW mX0_step (d + 4) K 11 [some (xR oR), some (xR (uO r)), (some (xR (6, 1, 0))), (some (xI 40)), (some (xI i)), v5, v6] [] G1 640 2520) 40 (by omega) ?_ ?_ (Int.le_refl _) none none G (fun _ _ => rfl) hN
  · intro _ v5 v6 G1 f1 z
    refine w_iload (pc' := 13) dX0_step_11 rfl rfl ?_
    refine w_iload_n (pc' := 14) dX0_step_13 rfl rfl ?_
    -- at 14: .if_icmp .ge 37
    refine w_icmp_ge (pc' := 17) (tgt := 51) dX0_step_14 rfl rfl (fun h_ => ?_) (fun h_ => False.elim (by first | omega | (simp (decide := true) only [au_1, nu_2, au_lt, nu_lt, aw_e, nw_e, au_s, au_n, nu_s, nu_n, au_au, nu_nu, au_nu] at h_; omega)))
    exact main G1 _ _ _ _ _ f1 (zbd_b z)
  · intro i i0 i1 ih _ v5 v6 G1 f1 z
    have z6 := z.1
    refine w_iload (pc' := 13) dX0_step_11 rfl rfl ?_
    refine w_iload_n (pc' := 14) dX0_step_13 rfl rfl ?_
    -- at 14: .if_icmp .ge 37
    refine w_icmp_ge (pc' := 17) (tgt := 51) dX0_step_14 rfl rfl (fun h_ => False.elim (by first | omega | (simp (decide := true) only [au_1, nu_2, au_lt, nu_lt, aw_e, nw_e, au_s, au_n, nu_s, nu_n, au_au, nu_nu, au_nu] at h_; omega))) (fun h_ => ?_)
    refine w_aload_n (pc' := 18) dX0_step_17 rfl rfl ?_
    refine w_iload (pc' := 20) dX0_step_18 rfl rfl ?_
    refine w_aaldM (pc' := 21) dX0_step_20 rfl z6 i0 (by omega) ?_
    refine w_ast5 (pc' := 23) dX0_step_21 rfl rfl ?_
    refine w_iconst (pc' := 24) dX0_step_23 rfl (by decide) ?_
    refine w_ist6 (pc' := 26) dX0_step_24 rfl rfl ?_
    -- at 26: .iload 6
    refine up (T := fun j => 0 ≤ j → ∀ (G1 : GH), (∀ q : Rl, ¬ (q.1 = 7 ∧ q.2.1 = 1) → G1 q = G q) → zbd G1 1 i j → tvW mX0_step (d + 4) K 26 [some (xR oR), some (xR (uO r)), (some (xR (6, 1, 0))), (some (xI 40)), (some (xI i)), (some (xR (7, 1, i))), (some (xI j))] [] G1 640 2520) 8 (by omega) ?_ ?_ (Int.le_refl _) G1 f1 z
    · intro _ G1 f1 z
      refine w_iload (pc' := 28) dX0_step_26 rfl rfl ?_
      refine w_bipush (pc' := 30) dX0_step_28 rfl (by decide +kernel) (by decide) ?_
      -- at 30: .if_icmp .ge 15
      refine w_icmp_ge (pc' := 33) (tgt := 45) dX0_step_30 rfl rfl (fun h_ => ?_) (fun h_ => False.elim (by first | omega | (simp (decide := true) only [au_1, nu_2, au_lt, nu_lt, aw_e, nw_e, au_s, au_n, nu_s, nu_n, au_au, nu_nu, au_nu] at h_; omega)))
      refine w_inc4 (pc' := 48) dX0_step_45 rfl rfl ⟨by first | omega | (simp (decide := true) only [au_1, nu_2, au_lt, nu_lt, aw_e, nw_e, au_s, au_n, nu_s, nu_n, au_au, nu_nu, au_nu]; omega), by first | omega | (simp (decide := true) only [au_1, nu_2, au_lt, nu_lt, aw_e, nw_e, au_s, au_n, nu_s, nu_n, au_au, nu_nu, au_nu]; omega)⟩ ?_
      refine w_goto (tgt := 11) dX0_step_48 rfl ?_
      -- at 11: .iload 4
      exact ih (by omega) _ _ G1 f1 (zbd_n z)
    · intro j j0 j1 ihj _ G1 f1 z
      obtain ⟨g, g1, -⟩ := z.2 i i0 i1
      refine w_iload (pc' := 28) dX0_step_26 rfl rfl ?_
      refine w_bipush (pc' := 30) dX0_step_28 rfl (by decide +kernel) (by decide) ?_
      -- at 30: .if_icmp .ge 15
      refine w_icmp_ge (pc' := 33) (tgt := 45) dX0_step_30 rfl rfl (fun h_ => False.elim (by first | omega | (simp (decide := true) only [au_1, nu_2, au_lt, nu_lt, aw_e, nw_e, au_s, au_n, nu_s, nu_n, au_au, nu_nu, au_nu] at h_; omega))) (fun h_ => ?_)
      refine w_aload (pc' := 35) dX0_step_33 rfl rfl ?_
      refine w_iload (pc' := 37) dX0_step_35 rfl rfl ?_
      refine w_iconst (pc' := 38) dX0_step_37 rfl (by decide) ?_
      refine w_zast (pc' := 39) dX0_step_38 rfl g1 j0 (by omega) (Or.inl rfl) ?_
      -- at 39: .iinc 6 1
      refine w_upd (fun G2 a2 f2 => ?_)
      refine w_inc6 (pc' := 42) dX0_step_39 rfl rfl ⟨by first | omega | (simp (decide := true) only [au_1, nu_2, au_lt, nu_lt, aw_e, nw_e, au_s, au_n, nu_s, nu_n, au_au, nu_nu, au_nu]; omega), by first | omega | (simp (decide := true) only [au_1, nu_2, au_lt, nu_lt, aw_e, nw_e, au_s, au_n, nu_s, nu_n, au_au, nu_nu, au_nu]; omega)⟩ ?_
      refine w_goto (tgt := 26) dX0_step_42 rfl ?_
      -- at 26: .iload 6
      exact ihj (by omega) G2 (fun q hq => (f2 q (fun z => hq (by rw [z]; exact ⟨rfl, rfl⟩))).trans (f1 q hq)) (zbd_s z g1 a2 f2)
end
