set_option maxRecDepth 10000
section
variable {d : Nat} {K : Option XV → GH → Prop} {G : GH} {bc bs : Nat} {σ : MS} {w : RW} {f : Int} {H W : Nat} {b l : Int → Int} {u ma li : Int} {rg : Option Rl} {z0 z1 z2 z3 z4 z5 z6 z7 z8 z9 : Int}
theorem c_X10_forced_l (hK : kok σ) (hF : fo1 σ) (hf : 0 ≤ f ∧ f < σ.1 40) (eH : (H : Int) = σ.2 35 f) (eW : (W : Int) = σ.2 36 f) {Z : Int × (Int → Int)} (h : ∀ G', ffo f G G' → off G' u ma li rg → G' (fO f) = some (xob 8 (fob f H W z0 z1 z2 z3 z4 z5 z6 z7 z8 z9)) → fl3 σ f H W Z.2 G' → K (some (xI Z.1)) G') :
    ∀ (k : Nat) (b l : Int → Int) (n p : Int) (G1 : GH), ne_ σ f b < k → bok σ f b → lok σ l → (0 ≤ n ∧ n + ne_ σ f b ≤ 64) → p < n → ffo f G G1 → off G1 u ma li rg → Rkin σ G1 → G1 (fO f) = some (xob 8 (fob f H W z0 z1 z2 z3 z4 z5 z6 z7 z8 z9)) → fl3 σ f H W b G1 → flf σ f l G1 → frN σ f k b l n = Z → tvW mX10_forced (d + 7) K 8 [some (xR (fO f)), some (xI n), some (xI p)] [] G1 bc bs := by
  have hk1 := hK.1
  have hd := hF.2 f hf.1 hf.2
  intro k
  induction k with
  | zero =>
    intro b l n p G1 hne
    have := (ne_r (σ := σ) (f := f) (b := b)).1
    omega
  | succ k ih =>
    intro b l n p G1 hne hb hl hn hp f1 o1 k1 O1 l1 lf1 eZ
    have hne0 := ne_r (σ := σ) (f := f) (b := b)
    obtain ⟨r1, r2, r3, r4⟩ := rdN_ok (f := f) hk1.1 (by omega) hb hl 64
    have r1 : bok σ f (rnd σ f b l).1 := r1
    have r2 : lok σ (rnd σ f b l).2.1 := r2
    have r3 : 0 ≤ (rnd σ f b l).2.2 ∧ (rnd σ f b l).2.2 ≤ 64 := r3
    have r4 : ne_ σ f (rnd σ f b l).1 + (rnd σ f b l).2.2 = ne_ σ f b := r4
    have eZ : (if (rnd σ f b l).2.2 = 0 then (n, (rnd σ f b l).1) else frN σ f k (rnd σ f b l).1 (rnd σ f b l).2.1 (n + (rnd σ f b l).2.2)) = Z := eZ
    refine w_iload_n (pc' := 9) dX10_forced_8 rfl rfl ?_
    refine w_iload_n (pc' := 10) dX10_forced_9 rfl rfl ?_
    -- at 10: .if_icmp .le 15
    refine w_icmp_le (pc' := 13) (tgt := 25) dX10_forced_10 rfl rfl (fun h_ => False.elim (by first | omega | (simp (decide := true) only [au_1, nu_2, au_lt, nu_lt, aw_e, nw_e, au_s, au_n, nu_s, nu_n, au_au, nu_nu, au_nu] at h_; omega))) (fun h_ => ?_)
    refine w_iload_n (pc' := 14) dX10_forced_13 rfl rfl ?_
    refine w_ist2 (pc' := 15) dX10_forced_14 rfl rfl ?_
    refine w_iload_n (pc' := 16) dX10_forced_15 rfl rfl ?_
    refine w_aload_n (pc' := 17) dX10_forced_16 rfl rfl ?_
    -- at 17: .invokevirtual 165
    refine w_callV0 (pc' := 20) (mc := 0) (ms := 0) dX10_forced_17 rfl tX10_round q1043 rfl rfl qs37 q1041 O1 rfl (Nat.le_of_ble_eq_true rfl) (Nat.le_of_ble_eq_true rfl) ?_
    refine c_X10_round O1 o1 k1 l1 lf1 hK hF hf eH eW hb hl (fun G2 f2 e2 l2 lf2 => w_p1 ?_)
    have O2 := e2.trans O1
    have fr2 : ffo f G1 G2 := ffo_r f2
    have o2 := (f2 oR (by simp only []; omega) (by simp only []; omega)).trans o1
    have hne2 := ne_r (σ := σ) (f := f) (b := (rnd σ f b l).1)
    generalize rnd σ f b l = X at *
    refine w_iadd (pc' := 21) dX10_forced_20 rfl ⟨by first | omega | (simp (decide := true) only [au_1, nu_2, au_lt, nu_lt, aw_e, nw_e, au_s, au_n, nu_s, nu_n, au_au, nu_nu, au_nu]; omega), by first | omega | (simp (decide := true) only [au_1, nu_2, au_lt, nu_lt, aw_e, nw_e, au_s, au_n, nu_s, nu_n, au_au, nu_nu, au_nu]; omega)⟩ ?_
    refine w_ist1 (pc' := 22) dX10_forced_21 rfl rfl ?_
    refine w_goto (tgt := 8) dX10_forced_22 rfl ?_
    -- at 8: .iload_n 1
    by_cases q : X.2.2 = 0
    · rw [if_pos q] at eZ
      refine w_iload_n (pc' := 9) dX10_forced_8 rfl rfl ?_
      refine w_iload_n (pc' := 10) dX10_forced_9 rfl rfl ?_
      -- at 10: .if_icmp .le 15
      refine w_icmp_le (pc' := 13) (tgt := 25) dX10_forced_10 rfl rfl (fun h_ => ?_) (fun h_ => False.elim (by first | omega | (simp (decide := true) only [au_1, nu_2, au_lt, nu_lt, aw_e, nw_e, au_s, au_n, nu_s, nu_n, au_au, nu_nu, au_nu] at h_; omega)))
      refine w_iload_n (pc' := 26) dX10_forced_25 rfl rfl ?_
      -- at 26: .ireturn
      refine w_ireturn dX10_forced_26 rfl ?_
      have h := h G2 (ffo_t f1 fr2) o2 O2
      rw [← eZ] at h
      rw [q, Int.add_zero]
      exact h l2
    · rw [if_neg q] at eZ
      exact ih X.1 X.2.1 _ _ G2 (by omega) r1 r2 ⟨by omega, by omega⟩ (by omega) (ffo_t f1 fr2) o2 (Rkin_o fr2 k1) O2 l2 lf2 eZ
theorem c_X10_forced (hO : G (fO f) = some (xob 8 (fob f H W z0 z1 z2 z3 z4 z5 z6 z7 z8 z9))) (h3 : fl3 σ f H W b G) (hof : off G u ma li rg) (hkin : Rkin σ G) (hK : kok σ) (hF : fo1 σ) (hf : 0 ≤ f ∧ f < σ.1 40) (eH : (H : Int) = σ.2 35 f) (eW : (W : Int) = σ.2 36 f)
    (h : ∀ G', ffo f G G' → off G' u ma li rg → (∃ z0 z1 z2 z3 z4 z5 z6 z7 z8 z9, G' (fO f) = some (xob 8 (fob f H W z0 z1 z2 z3 z4 z5 z6 z7 z8 z9))) → fl3 σ f H W (fcd σ f).2 G' → K (some (xI (fcd σ f).1)) G') : tvW mX10_forced (d + 7) K 0 [some (xR (fO f)), none, none] [] G bc bs := by
  have hk1 := hK.1
  have hd := hF.2 f hf.1 hf.2
  have hne := ne_r (σ := σ) (f := f) (b := fun _ => 0)
  have hlk : lok σ (cutl σ (fun k => σ.2 39 (40 * f + k))) := by
    intro k k0 k1
    rw [cutl_in ⟨k0, k1⟩]
    exact hd.2.2.2 k k0 (by omega)
  have hb0 : bok σ f (fun _ => 0) := fun k _ _ _ => ⟨Int.le_refl _, by simp only []; omega⟩
  refine w_aload_n (pc' := 1) dX10_forced_0 rfl rfl ?_
  -- at 1: .invokevirtual 121
  refine w_callV0 (pc' := 4) (mc := 0) (ms := 0) dX10_forced_1 rfl tX10_begin q973 rfl rfl qs27 q971 hO rfl (Nat.le_of_ble_eq_true rfl) (Nat.le_of_ble_eq_true rfl) ?_
  refine c_X10_begin hO h3 hof hkin hK hF hf eH eW (fun G1 f1 s1 => w_p0 ?_)
  obtain ⟨tof, tkin, tO, tbd, tly, ⟨⟨to, to1, -⟩, twa, ton, tsk⟩, tlf⟩ := s1
  have l1 : fl3 σ f H W (fun _ => 0) G1 := by
    refine ⟨tbd, tly, ⟨to, to1⟩, twa, ton, tsk, ?_⟩
    obtain ⟨g, g1, -⟩ := tlf
    exact ⟨g, g1⟩
  refine w_iconst (pc' := 5) dX10_forced_4 rfl (by decide) ?_
  refine w_ist1 (pc' := 6) dX10_forced_5 rfl rfl ?_
  refine w_iconst (pc' := 7) dX10_forced_6 rfl (by decide) ?_
  refine w_ist2 (pc' := 8) dX10_forced_7 rfl rfl ?_
  -- at 8: .iload_n 1
  exact c_X10_forced_l (G := G) hK hF hf eH eW (fun G2 f2 o2 O2 l2 => h G2 f2 o2 ⟨_, _, _, _, _, _, _, _, _, _, O2⟩ l2) 65 (fun _ => 0) _ 0 (-1) G1 (by omega) hb0 hlk ⟨by omega, by omega⟩ (by omega) f1 tof tkin tO l1 tlf rfl
theorem c_X0_forced {f : Int} (hw : Rx σ w G) (hK : kok σ) (hF : fo1 σ) (h1 : 0 ≤ f ∧ f < σ.1 40 → ∀ G', tfr G G' → (∀ τ, frS scS σ τ → τ.2 38 = shF σ f (zfl σ f) (fcd σ f).2 → τ.1 41 = σ.1 41 → Rel τ G') → K (some (xI (fcd σ f).1)) G') (h0 : ¬ (0 ≤ f ∧ f < σ.1 40) → K (some (xI (-1))) G) : tvW mX0_forced (d + 8) K 0 [some (xR oR), some (xI f), none] [] G bc bs := by
  have hof := hw.1
  unfold off at hof
  refine w_aload_n (pc' := 1) dX0_forced_0 rfl rfl ?_
  refine w_iload_n (pc' := 2) dX0_forced_1 rfl rfl ?_
  -- at 2: .invokevirtual 336
  refine w_callV1 (pc' := 5) (mc := 0) (ms := 0) dX0_forced_2 rfl tX0_floor_2 q942 rfl rfl qs24 q940 hof rfl (Nat.le_of_ble_eq_true rfl) (Nat.le_of_ble_eq_true rfl) ?_
  refine c_X0_floor_2 hw (fun f0 f1 => w_p1 ?_) (fun g => w_p1 ?_)
  · obtain ⟨H, W, z0, z1, z2, z3, z4, z5, z6, z7, z8, z9, eH, eW, hO, h3⟩ := fl1_3 (Rflo_1 hw.2.2.2.2.2.2.2.1 f0 f1)
    have hd := hF.2 f f0 f1
    refine w_ast2 (pc' := 6) dX0_forced_5 rfl rfl ?_
    refine w_aload_n (pc' := 7) dX0_forced_6 rfl rfl ?_
    -- at 7: .ifnonnull 7
    refine w_ifnonnull (pc' := 10) (tgt := 14) dX0_forced_7 rfl rfl (fun h_ => ?_) (fun h_ => False.elim (nomatch h_))
    refine w_aload_n (pc' := 15) dX0_forced_14 rfl rfl ?_
    -- at 15: .invokevirtual 356
    refine w_callV0 (pc' := 18) (mc := 0) (ms := 0) dX0_forced_15 rfl tX10_forced q1038 rfl rfl q1039 q1037 hO rfl (Nat.le_of_ble_eq_true rfl) (Nat.le_of_ble_eq_true rfl) ?_
    refine c_X10_forced hO h3 hw.1 hw.2.1 hK hF ⟨f0, f1⟩ eH eW (fun G1 fr o1 O1 l1 => w_p1 ?_)
    obtain ⟨y0, y1, y2, y3, y4, y5, y6, y7, y8, y9, O1⟩ := O1
    refine w_ireturn dX0_forced_18 rfl ?_
    exact h1 ⟨f0, f1⟩ G1 (fun q hq => fr q (fun z => by rw [z] at hq; simp only [] at hq; omega) (by omega) (by omega)) (fun τ t1 t2 t3 => ⟨w, Rx_sea hw hF f0 f1 t1 t2 fr (by rw [t3]; exact o1) (fl3_1 hF ⟨f0, f1⟩ t1 t2 eH eW (by omega) O1 l1)⟩)
  · refine w_ast2 (pc' := 6) dX0_forced_5 rfl rfl ?_
    refine w_aload_n (pc' := 7) dX0_forced_6 rfl rfl ?_
    -- at 7: .ifnonnull 7
    refine w_ifnonnull (pc' := 10) (tgt := 14) dX0_forced_7 rfl rfl (fun h_ => False.elim (h_ rfl)) (fun h_ => ?_)
    refine w_iconst (pc' := 11) dX0_forced_10 rfl (by decide) ?_
    refine w_goto (tgt := 18) dX0_forced_11 rfl ?_
    -- at 18: .ireturn
    refine w_ireturn dX0_forced_18 rfl ?_
    exact h0 g
end
