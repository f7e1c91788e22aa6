set_option maxRecDepth 10000
section
variable {d : Nat} {K : Option XV → GH → Prop} {G : GH} {bc bs : Nat} {σ : MS} {f : Int} {H W : Nat} {b : Int → Int} {u ma : Int} {rg : Option Rl} {z0 z1 z2 z3 z4 z5 z6 z7 z8 z9 most mo byc : Int}
theorem c_X10_search (hO : G (fO f) = some (xob 8 (fob f H W z0 z1 z2 z3 z4 z5 z6 z7 z8 z9))) (h3 : fl3 σ f H W b G) (hof : off G u ma (σ.1 41) rg) (hkin : Rkin σ G) (hK : kok σ) (hF : fo1 σ) (hf : 0 ≤ f ∧ f < σ.1 40) (eH : (H : Int) = σ.2 35 f) (eW : (W : Int) = σ.2 36 f) (hli : 0 ≤ σ.1 41 ∧ σ.1 41 ≤ 600000) (hby : byc = 0 ∨ byc = 1) (hm : 1 ≤ most ∧ most ≤ 1000000) (hmo : ∀ x, 0 ≤ x → (byc ≠ 0 → x ≤ 64001) → (x = mo ↔ x = most))
    (h : ∀ G' c o le, ffo f G G' → off G' u ma (resA σ f most byc).2.1 rg → G' (fO f) = some (xob 8 (fob f H W (sho (resA σ f most byc)) (resA σ f most byc).1 (resA σ f most byc).2.2.1 mo (bes (resA σ f most byc)) c le o byc (resA σ f most byc).2.2.2.2.1)) → fl3 σ f H W (resA σ f most byc).2.2.2.2.2 G' → accJ most byc (resA σ f most byc) → K none G') : tvW mX10_search (d + 142) K 0 [some (xR (fO f)), some (xI mo), some (xI byc), none, none] [] G bc bs := by
  have hk1 := hK.1
  have hd := hF.2 f hf.1 hf.2
  have hA0 : accJ most byc (0, σ.1 41, 0, -1, 0, fun _ => 0) := ⟨⟨Int.le_refl _, show (0 : Int) ≤ 30000 by decide⟩, hli, ⟨Int.le_refl _, by show (0 : Int) ≤ most; omega⟩, Or.inl ⟨rfl, rfl⟩, Or.inl rfl, fun _ z => absurd z (show ¬ (0 : Int) < 0 by decide)⟩
  have hnE : ¬ endA most (0, σ.1 41, 0, -1, 0, fun _ => 0) := fun z => z.elim (fun y => absurd y (show ¬ (0 : Int) = 1 by decide)) (fun y => by have y : (0 : Int) = most := y; omega)
  have hne := ne_r (σ := σ) (f := f) (b := fun _ => 0)
  have hlk : lok σ (cutl σ (fun k => σ.2 39 (40 * f + k))) := by
    intro k k0 k1
    rw [cutl_in ⟨k0, k1⟩]
    exact hd.2.2.2 k k0 (by omega)
  have hb0 : bok σ f (fun _ => 0) := fun k _ _ _ => ⟨Int.le_refl _, by simp only []; omega⟩
  -- from a search that has ended
  have tail : ∀ (A : SA) (G2 : GH) (le : Int), A = resA σ f most byc → okW A → accJ most byc A → ffo f G G2 → fsS σ f H W u ma rg mo byc le (fun _ => 0) (cutl σ (fun k => σ.2 39 (40 * f + k))) 0 (ne_ σ f (fun _ => 0)) A G2 → tvW mX10_search (d + 142) K 25 [some (xR (fO f)), some (xI mo), some (xI byc), none, none] [] G2 bc bs := by
    intro A G2 le eA hW hA f2 s2
    rw [← eA] at h
    obtain ⟨tof, tkin, tO, tbd, tly, ⟨⟨to, to1, to2⟩, twa, ton, tsk⟩, tlf⟩ := s2
    refine w_aload_n (pc' := 26) dX10_search_25 rfl rfl ?_
    -- at 26: .invokevirtual 82
    refine w_callV0 (pc' := 29) (mc := 0) (ms := 0) dX10_search_26 rfl tX10_clear q977 rfl rfl qs28 q975 tO rfl (Nat.le_of_ble_eq_true rfl) (Nat.le_of_ble_eq_true rfl) ?_
    refine c_X10_clear tO tbd tly hF hf eH eW (fun G3 f3 ly3 => w_p0 ?_)
    have tO3 := (f3 (fO f) (by simp only []; omega)).trans tO
    have fr3 : ffo f G2 G3 := fun q y1 y2 y3 => f3 q (by omega)
    have fin : ∀ G4 : GH, (∀ q : Rl, ¬ (q.1 = 27 ∧ q.2.1 = 8 * f + 1) → G4 q = G3 q) → fbd G4 f 1 10 0 H W (fun i j => lyB σ f (A).2.2.2.2.2 i j - 1) → K none G4 := by
      intro G4 f4 ly4
      have ch4 : ∀ q : Rl, ¬ (q.1 = 27 ∧ q.2.1 = 8 * f + 1) → G4 q = G2 q := fun q hq => (f4 q hq).trans (f3 q hq)
      have fr4 : ffo f G2 G4 := fun q y1 y2 y3 => ch4 q (by omega)
      refine h G4 _ _ _ (ffo_t f2 fr4) ((ch4 oR (by simp only []; omega)).trans tof) ((ch4 _ (by simp only []; omega)).trans tO) ⟨fbd_fr (ch4 _ (by simp only []; omega)) (fun i => ch4 _ (by simp only []; omega)) tbd, ly4, ⟨to, fbd_fr (ch4 _ (by simp only []; omega)) (fun i => ch4 _ (by simp only []; omega)) to1⟩, ?_, ?_, ?_, ?_⟩ hA
      · obtain ⟨wa, w1⟩ := twa
        exact ⟨wa, fbd_fr (ch4 _ (by simp only []; omega)) (fun i => ch4 _ (by simp only []; omega)) w1⟩
      · obtain ⟨on, o1⟩ := ton
        exact ⟨on, fbd_fr (ch4 _ (by simp only []; omega)) (fun i => ch4 _ (by simp only []; omega)) o1⟩
      · obtain ⟨g, g1, g2⟩ := tsk
        exact ⟨g, (ch4 _ (by simp only []; omega)).trans g1, g2⟩
      · obtain ⟨g, g1, g2⟩ := tlf
        exact ⟨g, (ch4 _ (by simp only []; omega)).trans g1⟩
    have a3 := hA.2.2.1
    refine w_aload_n (pc' := 30) dX10_search_29 rfl rfl ?_
    refine w_get 9 (pc' := 33) dX10_search_30 rfl fX10_85_8 tO3 rfl ?_
    -- at 33: .ifCond .ne 4
    by_cases q : 0 < (A).2.2.1
    · have e1 : sho A = 1 := if_pos q
      rw [e1]
      refine w_if_ne (pc' := 36) (tgt := 37) dX10_search_33 rfl rfl (fun h_ => ?_) (fun h_ => False.elim (by first | omega | (simp (decide := true) only [au_1, nu_2, au_lt, nu_lt, aw_e, nw_e, au_s, au_n, nu_s, nu_n, au_au, nu_nu, au_nu] at h_; omega)))
      have to2 := to2 q
      have to3 := fbd_fr (G' := G3) (f3 _ (by simp only []; omega)) (fun i => f3 _ (by simp only []; omega)) to1
      have to36 := to3.1
      have ly36 := ly3.1
      have hst : ∃ S : Int → Int → GH → Prop, S = fun i j G4 => (∀ q : Rl, ¬ (q.1 = 27 ∧ q.2.1 = 8 * f + 1) → G4 q = G3 q) ∧ ∀ y : Int, 0 ≤ y → y < H → ∃ g, G4 (27, 8 * f + 1, y) = some (xar 0 W g) ∧ ∀ x : Int, 0 ≤ x → x < W → (y < i ∨ y = i ∧ x < j) → g x = lyB σ f (A).2.2.2.2.2 y x - 1 := ⟨_, rfl⟩
      obtain ⟨S, hS⟩ := hst
      refine w_iconst (pc' := 38) dX10_search_37 rfl (by decide) ?_
      refine w_ist3 (pc' := 39) dX10_search_38 rfl rfl ?_
      -- at 39: .iload_n 3
      refine up (T := fun i => 0 ≤ i → ∀ (v4 : Option XV) (G4 : GH), S i 0 G4 → tvW mX10_search (d + 142) K 39 [some (xR (fO f)), some (xI mo), some (xI byc), some (xI i), v4] [] G4 bc bs) (a := 0) (H : Int) (by omega) ?_ ?_ (Int.le_refl _) none G3 ?_
      · intro _ v4 G4 s
        rw [hS] at s
        obtain ⟨s1, s2⟩ := s
        have tO4 := (s1 (fO f) (by simp only []; omega)).trans tO3
        refine w_iload_n (pc' := 40) dX10_search_39 rfl rfl ?_
        refine w_aload_n (pc' := 41) dX10_search_40 rfl rfl ?_
        refine w_get 0 (pc' := 44) dX10_search_41 rfl fX10_22_8 tO4 rfl ?_
        -- at 44: .if_icmp .ge 45
        refine w_icmp_ge (pc' := 47) (tgt := 89) dX10_search_44 rfl rfl (fun h_ => ?_) (fun h_ => False.elim (by first | omega | (simp (decide := true) only [au_1, nu_2, au_lt, nu_lt, aw_e, nw_e, au_s, au_n, nu_s, nu_n, au_au, nu_nu, au_nu] at h_; omega)))
        refine w_return dX10_search_89 rfl ?_
        refine fin G4 s1 ⟨(s1 _ (by simp only []; omega)).trans ly36, fun y y0 y1 => ?_⟩
        obtain ⟨g, g1, g2⟩ := s2 y y0 y1
        exact ⟨g, g1, fun x x0 x1 => g2 x x0 x1 (Or.inl y1)⟩
      · intro i i0 i1 ih _ v4 G4 s
        have s0 := s
        rw [hS] at s0
        have tO4 := (s0.1 (fO f) (by simp only []; omega)).trans tO3
        refine w_iload_n (pc' := 40) dX10_search_39 rfl rfl ?_
        refine w_aload_n (pc' := 41) dX10_search_40 rfl rfl ?_
        refine w_get 0 (pc' := 44) dX10_search_41 rfl fX10_22_8 tO4 rfl ?_
        -- at 44: .if_icmp .ge 45
        refine w_icmp_ge (pc' := 47) (tgt := 89) dX10_search_44 rfl rfl (fun h_ => False.elim (by first | omega | (simp (decide := true) only [au_1, nu_2, au_lt, nu_lt, aw_e, nw_e, au_s, au_n, nu_s, nu_n, au_au, nu_nu, au_nu] at h_; omega))) (fun h_ => ?_)
        refine w_iconst (pc' := 48) dX10_search_47 rfl (by decide) ?_
        refine w_ist4 (pc' := 50) dX10_search_48 rfl rfl ?_
        -- at 50: .iload 4
        refine up (T := fun j => 0 ≤ j → ∀ (G4 : GH), S i j G4 → tvW mX10_search (d + 142) K 50 [some (xR (fO f)), some (xI mo), some (xI byc), some (xI i), some (xI j)] [] G4 bc bs) (a := 0) (W : Int) (by omega) ?_ ?_ (Int.le_refl _) G4 s
        · intro _ G4 s
          have s0 := s
          rw [hS] at s0
          have tO4 := (s0.1 (fO f) (by simp only []; omega)).trans tO3
          refine w_iload (pc' := 52) dX10_search_50 rfl rfl ?_
          refine w_aload_n (pc' := 53) dX10_search_52 rfl rfl ?_
          refine w_get 1 (pc' := 56) dX10_search_53 rfl fX10_26_8 tO4 rfl ?_
          -- at 56: .if_icmp .ge 27
          refine w_icmp_ge (pc' := 59) (tgt := 83) dX10_search_56 rfl rfl (fun h_ => ?_) (fun h_ => False.elim (by first | omega | (simp (decide := true) only [au_1, nu_2, au_lt, nu_lt, aw_e, nw_e, au_s, au_n, nu_s, nu_n, au_au, nu_nu, au_nu] at h_; omega)))
          refine w_inc3 (pc' := 86) dX10_search_83 rfl rfl ⟨by first | omega | (simp (decide := true) only [au_1, nu_2, au_lt, nu_lt, aw_e, nw_e, au_s, au_n, nu_s, nu_n, au_au, nu_nu, au_nu]; omega), by first | omega | (simp (decide := true) only [au_1, nu_2, au_lt, nu_lt, aw_e, nw_e, au_s, au_n, nu_s, nu_n, au_au, nu_nu, au_nu]; omega)⟩ ?_
          refine w_goto (tgt := 39) dX10_search_86 rfl ?_
          -- at 39: .iload_n 3
          refine ih (by omega) _ G4 ?_
          rw [hS]
          refine ⟨s0.1, fun y y0 y1 => ?_⟩
          obtain ⟨g, g1, g2⟩ := s0.2 y y0 y1
          exact ⟨g, g1, fun x x0 x1 z => g2 x x0 x1 (by omega)⟩
        · intro j j0 j1 ihj _ G4 s
          have s0 := s
          rw [hS] at s0
          obtain ⟨s1, s2⟩ := s0
          have tO4 := (s1 (fO f) (by simp only []; omega)).trans tO3
          have p16 := (s1 (26, f, 1) (by simp only []; omega)).trans ly36
          have p26 := (s1 (26, f, 2) (by simp only []; omega)).trans to36
          obtain ⟨gt, gt1, gt2⟩ := to3.2 i i0 i1
          have gt1 := (s1 (27, 8 * f + 2, i) (by simp only []; omega)).trans gt1
          have x1 := (gt2 j j0 j1).trans (to2 i j i0 i1 j0 j1)
          obtain ⟨gl, gl1, gl2⟩ := s2 i i0 i1
          refine w_iload (pc' := 52) dX10_search_50 rfl rfl ?_
          refine w_aload_n (pc' := 53) dX10_search_52 rfl rfl ?_
          refine w_get 1 (pc' := 56) dX10_search_53 rfl fX10_26_8 tO4 rfl ?_
          -- at 56: .if_icmp .ge 27
          refine w_icmp_ge (pc' := 59) (tgt := 83) dX10_search_56 rfl rfl (fun h_ => False.elim (by first | omega | (simp (decide := true) only [au_1, nu_2, au_lt, nu_lt, aw_e, nw_e, au_s, au_n, nu_s, nu_n, au_au, nu_nu, au_nu] at h_; omega))) (fun h_ => ?_)
          refine w_aload_n (pc' := 60) dX10_search_59 rfl rfl ?_
          refine w_get 5 (pc' := 63) dX10_search_60 rfl fX10_34_8 tO4 rfl ?_
          refine w_iload_n (pc' := 64) dX10_search_63 rfl rfl ?_
          refine w_aaldM (pc' := 65) dX10_search_64 rfl p16 i0 i1 ?_
          refine w_iload (pc' := 67) dX10_search_65 rfl rfl ?_
          refine w_aload_n (pc' := 68) dX10_search_67 rfl rfl ?_
          refine w_get 6 (pc' := 71) dX10_search_68 rfl fX10_37_8 tO4 rfl ?_
          refine w_iload_n (pc' := 72) dX10_search_71 rfl rfl ?_
          refine w_aaldM (pc' := 73) dX10_search_72 rfl p26 i0 i1 ?_
          refine w_iload (pc' := 75) dX10_search_73 rfl rfl ?_
          refine w_iald (pc' := 76) dX10_search_75 rfl gt1 j0 j1 ?_
          -- at 76: .iastore
          rw [x1]
          refine w_iast (pc' := 77) dX10_search_76 rfl gl1 j0 j1  ?_
          -- at 77: .iinc 4 1
          refine w_upd (fun G5 a5 f5 => ?_)
          refine w_inc4 (pc' := 80) dX10_search_77 rfl rfl ⟨by first | omega | (simp (decide := true) only [au_1, nu_2, au_lt, nu_lt, aw_e, nw_e, au_s, au_n, nu_s, nu_n, au_au, nu_nu, au_nu]; omega), by first | omega | (simp (decide := true) only [au_1, nu_2, au_lt, nu_lt, aw_e, nw_e, au_s, au_n, nu_s, nu_n, au_au, nu_nu, au_nu]; omega)⟩ ?_
          refine w_goto (tgt := 50) dX10_search_80 rfl ?_
          -- at 50: .iload 4
          refine ihj (by omega) G5 ?_
          rw [hS]
          refine ⟨fun q hq => (f5 q (fun z => hq (by rw [z]; exact ⟨rfl, rfl⟩))).trans (s1 q hq), fun y y0 y1 => ?_⟩
          by_cases ey : y = i
          · rw [ey]
            refine ⟨_, a5, fun x x0 x1 z => ?_⟩
            unfold iset
            by_cases ex : x = j
            · rw [if_pos ex, ex]
            · rw [if_neg ex]
              exact gl2 x x0 x1 (by omega)
          · obtain ⟨g, g1, g2⟩ := s2 y y0 y1
            exact ⟨g, (f5 _ (rl_ne (by omega))).trans g1, fun x x0 x1 z => g2 x x0 x1 (by omega)⟩
      · rw [hS]
        refine ⟨fun _ _ => rfl, fun y y0 y1 => ?_⟩
        obtain ⟨g, g1, -⟩ := ly3.2 y y0 y1
        exact ⟨g, g1, fun x x0 x1 z => by omega⟩
    · have e1 : sho A = 0 := if_neg q
      have e2 : (A).2.2.2.2.2 = fun _ => 0 := hW.2 (by omega)
      rw [e1]
      refine w_if_ne (pc' := 36) (tgt := 37) dX10_search_33 rfl rfl (fun h_ => False.elim (by first | omega | (simp (decide := true) only [au_1, nu_2, au_lt, nu_lt, aw_e, nw_e, au_s, au_n, nu_s, nu_n, au_au, nu_nu, au_nu] at h_; omega))) (fun h_ => ?_)
      refine w_return dX10_search_36 rfl ?_
      refine fin G3 (fun _ _ => rfl) ?_
      rw [e2]
      exact ly3
  refine w_aload_n (pc' := 1) dX10_search_0 rfl rfl ?_
  -- at 1: .invokevirtual 121
  refine w_callV0 (pc' := 4) (mc := 0) (ms := 0) dX10_search_1 rfl tX10_begin q973 rfl rfl qs27 q971 hO rfl (Nat.le_of_ble_eq_true rfl) (Nat.le_of_ble_eq_true rfl) ?_
  refine c_X10_begin hO h3 hof hkin hK hF hf eH eW (fun G1 f1 s1 => w_p0 ?_)
  obtain ⟨tof, tkin, tO, tbd, tly, txt, tlf⟩ := s1
  refine w_aload_n (pc' := 5) dX10_search_4 rfl rfl ?_
  refine w_iload_n (pc' := 6) dX10_search_5 rfl rfl ?_
  refine w_put 12 (pc' := 9) dX10_search_6 rfl pX10_124_8 (by decide) tO (Nat.le_of_ble_eq_true rfl) trivial ?_
  -- at 9: .aload_n 0
  refine w_upd (fun G2 a2 f2 => ?_)
  have hft : byc = 0 ∨ byc = 1 := hby
  refine w_aload_n (pc' := 10) dX10_search_9 rfl rfl ?_
  refine w_iload_n (pc' := 11) dX10_search_10 rfl rfl ?_
  refine w_put 17 (pc' := 14) dX10_search_11 rfl pX10_127_8 (by decide) a2 (Nat.le_of_ble_eq_true rfl) hft ?_
  -- at 14: .aload_n 0
  refine w_upd (fun G3 a3 f3' => ?_)
  have ch3 : ∀ q : Rl, q ≠ fO f → G3 q = G1 q := fun q hq => (f3' q hq).trans (f2 q hq)
  have fr3 : ffo f G1 G3 := fun q y1 y2 y3 => ch3 q (fun z => y2 (by rw [z]; exact ⟨by simp only []; omega, rfl⟩))
  have s3 : fsS σ f H W u ma rg mo byc (leI σ f 40) (fun _ => 0) (cutl σ (fun k => σ.2 39 (40 * f + k))) 0 (ne_ σ f (fun _ => 0)) (0, σ.1 41, 0, -1, 0, fun _ => 0) G3 := by
    refine ⟨(ch3 oR (rl_ne (by omega))).trans tof, Rkin_o fr3 tkin, a3, fbd_fr (ch3 _ (rl_ne (by omega))) (fun i => ch3 _ (rl_ne (by omega))) tbd, fbd_fr (ch3 _ (rl_ne (by omega))) (fun i => ch3 _ (rl_ne (by omega))) tly, fxt_fr rfl rfl (fun n _ => ch3 _ (rl_ne (by omega))) (fun n i _ _ => ch3 _ (rl_ne (by omega))) (ch3 _ (rl_ne (by omega))) txt, ?_⟩
    obtain ⟨g, g1, g2⟩ := tlf
    exact ⟨g, (ch3 _ (rl_ne (by omega))).trans g1, g2⟩
  have hO3 := s3.2.2.1
  have fG3 : ffo f G G3 := ffo_t f1 fr3
  refine w_aload_n (pc' := 15) dX10_search_14 rfl rfl ?_
  -- at 15: .invokevirtual 130
  refine w_callV0 (pc' := 18) (mc := 0) (ms := 0) dX10_search_15 rfl tX10_isGood q984 rfl rfl qs29 q982 hO3 rfl (Nat.le_of_ble_eq_true rfl) (Nat.le_of_ble_eq_true rfl) ?_
  refine c_X10_isGood (fsS_R s3) hK hF hf eH eW (fun q => w_p1 ?_) (fun q => w_p1 ?_)
  · have eR : resA σ f most byc = srA σ f most byc := @if_pos _ (Classical.propDecidable _) q _ _ _
    have eo : (((ne_ σ f (fun _ => 0)).toNat : Nat) : Int) = ne_ σ f (fun _ => 0) := by omega
    have hll : 0 ≤ lst_ σ f byc ∧ lst_ σ f byc ≤ 1000 := by
      unfold lst_
      split
      · cases hl : lcs σ f (σ.1 5).toNat with
        | none => exact ⟨Int.le_refl _, by decide⟩
        | some v => exact (lcs_get (f := f) hK (σ.1 5).toNat (by omega)).2 v hl
      · exact ⟨Int.le_refl _, by decide⟩
    have nx := c_X10_next (σ := σ) (f := f) (H := H) (W := W) (u := u) (ma := ma) (rg := rg) (mo := mo) (most := most) (byc := byc) (le := leI σ f 40) (least := lst_ σ f byc) hK hF hf eH eW hll hby hm.2 hmo (ne_ σ f (fun _ => 0)).toNat (d + 135) (by omega)
    refine w_if_eq (pc' := 21) (tgt := 25) dX10_search_18 rfl rfl (fun h_ => False.elim (by first | omega | (simp (decide := true) only [au_1, nu_2, au_lt, nu_lt, aw_e, nw_e, au_s, au_n, nu_s, nu_n, au_au, nu_nu, au_nu] at h_; omega))) (fun h_ => ?_)
    refine w_aload_n (pc' := 22) dX10_search_21 rfl rfl ?_
    -- at 22: .invokevirtual 134
    refine w_callV0 (pc' := 25) (mc := 0) (ms := 0) dX10_search_22 rfl tX10_next q997 rfl rfl qs32 q995 hO3 rfl (Nat.le_of_ble_eq_true rfl) (Nat.le_of_ble_eq_true rfl) ?_
    refine nx _ G3 _ _ (fun _ => 0) (cutl σ (fun k => σ.2 39 (40 * f + k))) 0 (0, σ.1 41, 0, -1, 0, fun _ => 0) eo.symm hb0 hlk ⟨Int.le_refl _, by omega⟩ ?_ hA0 hnE (fun _ _ z => absurd z (show ¬ (0 : Int) < 0 by decide)) (by rw [eo]; exact s3) (fun G4 f4 s4 hA4 => w_p0 ?_)
    · intro k k0 k1 k2 k3
      rw [cutl_in ⟨k0, k1⟩] at k2
      obtain ⟨v, hv⟩ := (lcs_get (f := f) hK (σ.1 5).toNat (by omega)).1 ⟨k, k0, by omega, k2⟩
      unfold leI lst_
      rw [if_pos k3, show min (40 : Int).toNat (σ.1 5).toNat = (σ.1 5).toNat by omega, hv]
      rfl
    · rw [eo] at s4
      refine tail _ G4 _ eR.symm ?_ hA4 (ffo_t fG3 f4) s4
      exact okW_nx _ _ _ _ _ ⟨Int.le_refl _, fun _ => rfl⟩
  · have eR : resA σ f most byc = (0, σ.1 41, 0, -1, 0, fun _ => 0) := @if_neg _ (Classical.propDecidable _) q _ _ _
    refine w_if_eq (pc' := 21) (tgt := 25) dX10_search_18 rfl rfl (fun h_ => ?_) (fun h_ => False.elim (by first | omega | (simp (decide := true) only [au_1, nu_2, au_lt, nu_lt, aw_e, nw_e, au_s, au_n, nu_s, nu_n, au_au, nu_nu, au_nu] at h_; omega)))
    exact tail _ G3 _ eR.symm ⟨Int.le_refl _, fun _ => rfl⟩ hA0 fG3 s3
end
