set_option maxRecDepth 10000
def okW (A : SA) : Prop := 0 ≤ (A).2.2.1 ∧ ((A).2.2.1 = 0 → (A).2.2.2.2.2 = fun _ => 0)
theorem okW_lp {F : Int → SA → SA} (hF : ∀ n A, okW A → okW (F n A)) : ∀ (k : Nat) (n : Int) (A : SA), okW A → okW (lpG F k n A)
  | 0, _, _, h => h
  | k + 1, n, A, h => okW_lp hF k (n + 1) (F n A) (hF n A h)
theorem okW_nx {σ : MS} {f most byc least : Int} : ∀ (o : Nat) (b l : Int → Int) (c : Int) (A : SA), okW A → okW (srch σ f most byc least o b l c A) := by
  intro o
  induction o with
  | zero =>
    intro b l c A h
    refine ⟨?_, fun z => ?_⟩
    · show 0 ≤ (A).2.2.1 + 1
      have := h.1
      omega
    · have z : (A).2.2.1 + 1 = 0 := z
      have := h.1
      omega
  | succ o ih =>
    intro b l c A h
    refine okW_lp (fun n A hA => ?_) _ _ A h
    show okW (trG (cdB σ f) (σ.2 2) most byc least o b l c (npl σ f b l) (srch σ f most byc least o) n A)
    by_cases he : endA most A
    · rw [trG_end he]
      exact hA
    · by_cases hc : cdB σ f b l (npl σ f b l) n
      · rw [trG_yes hc he]
        split
        · exact hA
        · split
          · exact hA
          · exact ih _ _ _ _ hA
      · rw [trG_no hc]
        exact hA
theorem lcs_get {σ : MS} {f : Int} (hK : kok σ) : ∀ n : Nat, (n : Int) ≤ σ.1 5 → ((∃ k : Int, 0 ≤ k ∧ k < n ∧ 0 < σ.2 39 (40 * f + k)) → ∃ v, lcs σ f n = some v) ∧ ∀ v, lcs σ f n = some v → 0 ≤ v ∧ v ≤ 1000 := by
  intro n
  induction n with
  | zero => intro _; exact ⟨fun ⟨k, k0, k1, _⟩ => by omega, fun v hv => by cases hv⟩
  | succ n ih =>
    intro hn
    obtain ⟨i1, i2⟩ := ih (by omega)
    have hc := (hK.2 n (by omega) (by omega)).2.2.1
    rw [lcs_s]
    by_cases q : σ.2 39 (40 * f + n) = 0
    · rw [if_pos q]
      refine ⟨fun ⟨k, k0, k1, k2⟩ => i1 ⟨k, k0, ?_, k2⟩, i2⟩
      by_cases e : k = n
      · rw [e] at k2
        omega
      · omega
    · rw [if_neg q]
      cases hl : lcs σ f n with
      | none => exact ⟨fun _ => ⟨_, rfl⟩, fun v hv => by cases hv; exact hc⟩
      | some w =>
        have hw := i2 w hl
        refine ⟨fun _ => ?_, fun v hv => ?_⟩
        · simp only []
          split
          · exact ⟨_, rfl⟩
          · exact ⟨_, rfl⟩
        · simp only [] at hv
          split at hv
          · cases hv
            exact hw
          · cases hv
            exact hc
section
variable {d : Nat} {K : Option XV → GH → Prop} {G : GH} {bc bs : Nat} {σ : MS} {f : Int} {H W : Nat} {b : Int → Int} {u ma li : Int} {rg : Option Rl} {z0 z1 z2 z3 z4 z5 z6 z7 z8 z9 : Int}
/-- a floor between searches -/
def fl3 (σ : MS) (f : Int) (H W : Nat) (b : Int → Int) (G : GH) : Prop := fbd G f 0 10 0 H W (isB σ f) ∧ fbd G f 1 10 0 H W (fun i j => lyB σ f b i j - 1) ∧ (∃ to, fbd G f 2 10 0 H W to) ∧ (∃ wa, fbd G f 3 10 0 H W wa) ∧ (∃ on, fbd G f 4 11 3 H W on) ∧ (∃ g, G (25, f, 0) = some (xar 0 40 g) ∧ ∀ k, 0 ≤ k → k < 40 → g k = σ.2 39 (40 * f + k)) ∧ ∃ g, G (25, f, 1) = some (xar 0 40 g)
theorem c_X10_begin (hO : G (fO f) = some (xob 8 (fob f H W z0 z1 z2 z3 z4 z5 z6 z7 z8 z9))) (h3 : fl3 σ f H W b G) (hof : off G u ma li rg) (hkin : Rkin σ G) (hK : kok σ) (hF : fo1 σ) (hf : 0 ≤ f ∧ f < σ.1 40) (eH : (H : Int) = σ.2 35 f) (eW : (W : Int) = σ.2 36 f) (h : ∀ G', ffo f G G' → fsS σ f H W u ma rg z3 z8 (leI σ f 40) (fun _ => 0) (cutl σ (fun k => σ.2 39 (40 * f + k))) 0 (ne_ σ f (fun _ => 0)) (0, li, 0, -1, 0, fun _ => 0) G' → K none G') : tvW mX10_begin (d + 3) K 0 [some (xR (fO f)), none, none, none, none, none, none, none, none] [] G bc bs := by
  have hk1 := hK.1
  have hd := hF.2 f hf.1 hf.2
  obtain ⟨hbd, hly, ⟨to, hto⟩, hwa, hon, ⟨st, st1, st2⟩, ⟨lf0, lf1⟩⟩ := h3
  refine w_aload_n (pc' := 1) dX10_begin_0 rfl rfl ?_
  -- at 1: .invokevirtual 82
  refine w_callV0 (pc' := 4) (mc := 0) (ms := 0) dX10_begin_1 rfl tX10_clear q977 rfl rfl qs28 q975 hO rfl (Nat.le_of_ble_eq_true rfl) (Nat.le_of_ble_eq_true rfl) ?_
  refine c_X10_clear hO hbd hly hF hf eH eW (fun G1 f1 ly1 => w_p0 ?_)
  have hO1 := (f1 (fO f) (by simp only []; omega)).trans hO
  refine w_aload_n (pc' := 5) dX10_begin_4 rfl rfl ?_
  refine w_iconst (pc' := 6) dX10_begin_5 rfl (by decide) ?_
  refine w_put 9 (pc' := 9) dX10_begin_6 rfl pX10_85_8 (by decide) hO1 (Nat.le_of_ble_eq_true rfl) (Or.inl rfl) ?_
  -- at 9: .aload_n 0
  refine w_upd (fun P1 p1 q1 => ?_)
  refine w_aload_n (pc' := 10) dX10_begin_9 rfl rfl ?_
  refine w_iconst (pc' := 11) dX10_begin_10 rfl (by decide) ?_
  refine w_put 10 (pc' := 14) dX10_begin_11 rfl pX10_89_8 (by decide) p1 (Nat.le_of_ble_eq_true rfl) trivial ?_
  -- at 14: .aload_n 0
  refine w_upd (fun P2 p2 q2 => ?_)
  refine w_aload_n (pc' := 15) dX10_begin_14 rfl rfl ?_
  refine w_iconst (pc' := 16) dX10_begin_15 rfl (by decide) ?_
  refine w_put 11 (pc' := 19) dX10_begin_16 rfl pX10_92_8 (by decide) p2 (Nat.le_of_ble_eq_true rfl) trivial ?_
  -- at 19: .aload_n 0
  refine w_upd (fun P3 p3 q3 => ?_)
  refine w_aload_n (pc' := 20) dX10_begin_19 rfl rfl ?_
  refine w_iconst (pc' := 21) dX10_begin_20 rfl (by decide) ?_
  refine w_put 14 (pc' := 24) dX10_begin_21 rfl pX10_95_8 (by decide) p3 (Nat.le_of_ble_eq_true rfl) trivial ?_
  -- at 24: .aload_n 0
  refine w_upd (fun P4 p4 q4 => ?_)
  refine w_aload_n (pc' := 25) dX10_begin_24 rfl rfl ?_
  refine w_ldc (z := 2147483647) (pc' := 27) dX10_begin_25 rfl q979 (by decide +kernel) (by decide) ?_
  refine w_put 13 (pc' := 30) dX10_begin_27 rfl pX10_101_8 (by decide) p4 (Nat.le_of_ble_eq_true rfl) trivial ?_
  -- at 30: .aload_n 0
  refine w_upd (fun P5 p5 q5 => ?_)
  refine w_aload_n (pc' := 31) dX10_begin_30 rfl rfl ?_
  refine w_iconst (pc' := 32) dX10_begin_31 rfl (by decide) ?_
  refine w_put 18 (pc' := 35) dX10_begin_32 rfl pX10_104_8 (by decide) p5 (Nat.le_of_ble_eq_true rfl) (Or.inl rfl) ?_
  -- at 35: .aload_n 0
  refine w_upd (fun P6 p6 q6 => ?_)
  refine w_aload_n (pc' := 36) dX10_begin_35 rfl rfl ?_
  refine w_ldc (z := 2147483647) (pc' := 38) dX10_begin_36 rfl q979 (by decide +kernel) (by decide) ?_
  refine w_put 15 (pc' := 41) dX10_begin_38 rfl pX10_107_8 (by decide) p6 (Nat.le_of_ble_eq_true rfl) trivial ?_
  -- at 41: .aload_n 0
  refine w_upd (fun P7 p7 q7 => ?_)
  refine w_aload_n (pc' := 42) dX10_begin_41 rfl rfl ?_
  refine w_iconst (pc' := 43) dX10_begin_42 rfl (by decide) ?_
  refine w_put 16 (pc' := 46) dX10_begin_43 rfl pX10_110_8 (by decide) p7 (Nat.le_of_ble_eq_true rfl) trivial ?_
  -- at 46: .iconst 0
  refine w_upd (fun G2 a2 q8 => ?_)
  have a2 : G2 (fO f) = some (xob 8 (fob f H W 0 0 0 z3 2147483647 0 2147483647 0 z8 0)) := a2
  have ne2 : ∀ q : Rl, q ≠ fO f → G2 q = G1 q := fun q hq => by rw [q8 q hq, q7 q hq, q6 q hq, q5 q hq, q4 q hq, q3 q hq, q2 q hq, q1 q hq]
  have ch2 : ∀ q : Rl, q ≠ fO f → ¬ (q.1 = 27 ∧ q.2.1 = 8 * f + 1) → G2 q = G q := fun q y1 y2 => (ne2 q y1).trans (f1 q y2)
  clear p1 p2 p3 p4 p5 p6 p7 q1 q2 q3 q4 q5 q6 q7 q8
  have fr2 : ffo f G G2 := fun q y1 y2 y3 => ch2 q (fun z => y2 (by rw [z]; exact ⟨by simp only []; omega, rfl⟩)) (by omega)
  have hof2 := (ch2 oR (rl_ne (by omega)) (by simp only []; omega)).trans hof
  have kin2 : Rkin σ G2 := Rkin_o fr2 hkin
  have st1 := (ch2 _ (rl_ne (by omega)) (by simp only []; omega)).trans st1
  have lf1 := (ch2 _ (rl_ne (by omega)) (by simp only []; omega)).trans lf1
  have ly2 := fbd_fr (G' := G2) (ne2 _ (rl_ne (by omega))) (fun i => ne2 _ (rl_ne (by omega))) ly1
  have bd2 := fbd_fr (G' := G2) (ch2 _ (rl_ne (by omega)) (by simp only []; omega)) (fun i => ch2 _ (rl_ne (by omega)) (by simp only []; omega)) hbd
  have bd26 := bd2.1
  -- what stands by
  have xt2 : fxt σ f H W (0, li, 0, -1, 0, fun _ => 0) G2 := by
    refine ⟨⟨to, fbd_fr (ch2 _ (rl_ne (by omega)) (by simp only []; omega)) (fun i => ch2 _ (rl_ne (by omega)) (by simp only []; omega)) hto, fun z => absurd z (show ¬ (0 : Int) < 0 by decide)⟩, ?_, ?_, st, st1, st2⟩
    · obtain ⟨wa, w1⟩ := hwa
      exact ⟨wa, fbd_fr (ch2 _ (rl_ne (by omega)) (by simp only []; omega)) (fun i => ch2 _ (rl_ne (by omega)) (by simp only []; omega)) w1⟩
    · obtain ⟨on, o1⟩ := hon
      exact ⟨on, fbd_fr (ch2 _ (rl_ne (by omega)) (by simp only []; omega)) (fun i => ch2 _ (rl_ne (by omega)) (by simp only []; omega)) o1⟩
  -- the open places are counted
  have two : ∀ (v1 v2 v3 v4 v5 v6 v7 v8 : Option XV) (G3 : GH), G3 (fO f) = some (xob 8 (fob f H W 0 0 0 z3 2147483647 0 (leI σ f 40) 0 z8 0)) → (∀ q : Rl, q ≠ fO f → q ≠ (25, f, 1) → G3 q = G2 q) → flf σ f (cutl σ (fun k => σ.2 39 (40 * f + k))) G3 → tvW mX10_begin (d + 3) K 123 [some (xR (fO f)), v1, v2, v3, v4, v5, v6, v7, v8] [] G3 bc bs := by
    intro v1 v2 v3 v4 v5 v6 v7 v8 G3 a3 ch3 hlf3
    have p06 := (ch3 (26, f, 0) (rl_ne (by omega)) (rl_ne (by omega))).trans bd26
    have hcn : ∃ C : Int → Int, C = fun n => sm (fun k => b1 (opB σ f k ∧ (fun _ : Int => (0 : Int)) k = 0)) n := ⟨_, rfl⟩
    obtain ⟨C, hC⟩ := hcn
    have C0 : C 0 = 0 := by rw [hC]; exact sm_0
    have Cs : ∀ n, 0 ≤ n → C (n + 1) = C n + b1 (opB σ f n) := by
      intro n n0
      have z : C (n + 1) = C n + b1 (opB σ f n ∧ (fun _ : Int => (0 : Int)) n = 0) := by rw [hC]; exact sm_s n0
      rw [z, b1_c (show (opB σ f n ∧ (fun _ : Int => (0 : Int)) n = 0) ↔ opB σ f n from ⟨fun y => y.1, fun y => ⟨y, rfl⟩⟩)]
    have Cz : ∀ n n', 0 ≤ n → n ≤ n' → (∀ i, n ≤ i → i < n' → ¬ opB σ f i) → C n' = C n := by
      intro n n' n0 n1 hz
      rw [hC]
      exact sm_zr n0 n1 (fun i i0 i1 => b1_f (fun y => hz i i0 i1 y.1))
    have Cr : ∀ n, 0 ≤ n → 0 ≤ C n ∧ C n ≤ n := by
      intro n n0
      have := sm_r (f := fun k => b1 (opB σ f k ∧ (fun _ : Int => (0 : Int)) k = 0)) 1 n0 (fun _ _ _ => b1_r _)
      rw [hC]
      simp only [] at *
      omega
    have Ce : ne_ σ f (fun _ => 0) = C 64 := by rw [hC]; rfl
    clear hC
    refine w_aload_n (pc' := 124) dX10_begin_123 rfl rfl ?_
    refine w_get 2 (pc' := 127) dX10_begin_124 rfl fX10_31_8 a3 rfl ?_
    refine w_ast1 (pc' := 128) dX10_begin_127 rfl rfl ?_
    refine w_aload_n (pc' := 129) dX10_begin_128 rfl rfl ?_
    -- at 129: .arraylength
    refine w_alenR (pc' := 130) dX10_begin_129 rfl p06 ?_
    refine w_ist2 (pc' := 131) dX10_begin_130 rfl rfl ?_
    refine w_iconst (pc' := 132) dX10_begin_131 rfl (by decide) ?_
    refine w_ist3 (pc' := 133) dX10_begin_132 rfl rfl ?_
    -- at 133: .iload_n 3
    have hst : ∃ S : Int → GH → Prop, S = fun n G4 => G4 (fO f) = some (xob 8 (fob f H W 0 0 0 z3 2147483647 0 (leI σ f 40) (C n) z8 0)) ∧ ∀ q : Rl, q ≠ fO f → G4 q = G3 q := ⟨_, rfl⟩
    obtain ⟨S, hS⟩ := hst
    refine up (T := fun i => 0 ≤ i → ∀ (v4 v5 v6 v7 v8 : Option XV) (G4 : GH), S (8 * i) G4 → tvW mX10_begin (d + 3) K 133 [some (xR (fO f)), some (xR (26, f, 0)), some (xI H), some (xI i), v4, v5, v6, v7, v8] [] G4 bc bs) (H : Int) (by omega) ?_ ?_ (Int.le_refl _) v4 v5 v6 v7 v8 G3 (by rw [hS]; simp only []; rw [Int.mul_zero, C0]; exact ⟨a3, fun _ _ => trivial⟩)
    · intro _ v4 v5 v6 v7 v8 G4 s
      rw [hS] at s
      obtain ⟨s1, s2⟩ := s
      refine w_iload_n (pc' := 134) dX10_begin_133 rfl rfl ?_
      refine w_iload_n (pc' := 135) dX10_begin_134 rfl rfl ?_
      -- at 135: .if_icmp .ge 61
      refine w_icmp_ge (pc' := 138) (tgt := 196) dX10_begin_135 rfl rfl (fun h_ => ?_) (fun h_ => False.elim (by first | omega | (simp (decide := true) only [au_1, nu_2, au_lt, nu_lt, aw_e, nw_e, au_s, au_n, nu_s, nu_n, au_au, nu_nu, au_nu] at h_; omega)))
      refine w_return dX10_begin_196 rfl ?_
      have e64 : C (8 * H) = ne_ σ f (fun _ => 0) := by
        rw [Ce]
        exact (Cz (8 * H) 64 (by omega) (by omega) (fun i i0 i1 z => by have := z.1; omega)).symm
      rw [e64] at s1
      have ch4 : ∀ q : Rl, q ≠ fO f → q ≠ (25, f, 1) → G4 q = G2 q := fun q y1 y2 => (s2 q y1).trans (ch3 q y1 y2)
      have fr4 : ffo f G2 G4 := fun q y1 y2 y3 => ch4 q (fun z => y2 (by rw [z]; exact ⟨by simp only []; omega, rfl⟩)) (fun z => y2 (by rw [z]; exact ⟨by simp only []; omega, rfl⟩))
      refine h G4 (ffo_t fr2 fr4) ⟨(ch4 oR (rl_ne (by omega)) (rl_ne (by omega))).trans hof2, Rkin_o fr4 kin2, s1, fbd_fr (ch4 _ (rl_ne (by omega)) (rl_ne (by omega))) (fun i => ch4 _ (rl_ne (by omega)) (rl_ne (by omega))) bd2, fbd_fr (ch4 _ (rl_ne (by omega)) (rl_ne (by omega))) (fun i => ch4 _ (rl_ne (by omega)) (rl_ne (by omega))) ly2, fxt_fr rfl rfl (fun n _ => ch4 _ (rl_ne (by omega)) (rl_ne (by omega))) (fun n i _ _ => ch4 _ (rl_ne (by omega)) (rl_ne (by omega))) (ch4 _ (rl_ne (by omega)) (rl_ne (by omega))) xt2, ?_⟩
      obtain ⟨g, g1, g2⟩ := hlf3
      exact ⟨g, (s2 _ (rl_ne (by omega))).trans g1, g2⟩
    · intro i i0 i1 ih _ v4 v5 v6 v7 v8 G4 s
      have s0 := s
      rw [hS] at s0
      have r06 := (s0.2 (26, f, 0) (rl_ne (by omega))).trans p06
      obtain ⟨gi, gi1, gi2⟩ := bd2.2 i i0 i1
      have gi1 := ((s0.2 (27, 8 * f + 0, i) (rl_ne (by omega))).trans (ch3 _ (rl_ne (by omega)) (rl_ne (by omega)))).trans gi1
      refine w_iload_n (pc' := 134) dX10_begin_133 rfl rfl ?_
      refine w_iload_n (pc' := 135) dX10_begin_134 rfl rfl ?_
      -- at 135: .if_icmp .ge 61
      refine w_icmp_ge (pc' := 138) (tgt := 196) dX10_begin_135 rfl rfl (fun h_ => False.elim (by first | omega | (simp (decide := true) only [au_1, nu_2, au_lt, nu_lt, aw_e, nw_e, au_s, au_n, nu_s, nu_n, au_au, nu_nu, au_nu] at h_; omega))) (fun h_ => ?_)
      refine w_aload_n (pc' := 139) dX10_begin_138 rfl rfl ?_
      refine w_iload_n (pc' := 140) dX10_begin_139 rfl rfl ?_
      refine w_aaldM (pc' := 141) dX10_begin_140 rfl r06 i0 i1 ?_
      refine w_ast4 (pc' := 143) dX10_begin_141 rfl rfl ?_
      refine w_aload (pc' := 145) dX10_begin_143 rfl rfl ?_
      refine w_ast5 (pc' := 147) dX10_begin_145 rfl rfl ?_
      refine w_aload (pc' := 149) dX10_begin_147 rfl rfl ?_
      -- at 149: .arraylength
      refine w_alen (pc' := 150) dX10_begin_149 rfl gi1 ?_
      refine w_ist6 (pc' := 152) dX10_begin_150 rfl rfl ?_
      refine w_iconst (pc' := 153) dX10_begin_152 rfl (by decide) ?_
      refine w_ist7 (pc' := 155) dX10_begin_153 rfl rfl ?_
      -- at 155: .iload 7
      refine up (T := fun j => 0 ≤ j → ∀ (v8 : Option XV) (G4 : GH), S (8 * i + j) G4 → tvW mX10_begin (d + 3) K 155 [some (xR (fO f)), some (xR (26, f, 0)), some (xI H), some (xI i), some (xR (27, 8 * f + 0, i)), some (xR (27, 8 * f + 0, i)), some (xI W), some (xI j), v8] [] G4 bc bs) (a := 0) (W : Int) (by omega) ?_ ?_ (Int.le_refl _) v8 G4 (by rw [Int.add_zero]; exact s)
      · intro _ v8 G4 s
        refine w_iload (pc' := 157) dX10_begin_155 rfl rfl ?_
        refine w_iload (pc' := 159) dX10_begin_157 rfl rfl ?_
        -- at 159: .if_icmp .ge 31
        refine w_icmp_ge (pc' := 162) (tgt := 190) dX10_begin_159 rfl rfl (fun h_ => ?_) (fun h_ => False.elim (by first | omega | (simp (decide := true) only [au_1, nu_2, au_lt, nu_lt, aw_e, nw_e, au_s, au_n, nu_s, nu_n, au_au, nu_nu, au_nu] at h_; omega)))
        refine w_inc3 (pc' := 193) dX10_begin_190 rfl rfl ⟨by first | omega | (simp (decide := true) only [au_1, nu_2, au_lt, nu_lt, aw_e, nw_e, au_s, au_n, nu_s, nu_n, au_au, nu_nu, au_nu]; omega), by first | omega | (simp (decide := true) only [au_1, nu_2, au_lt, nu_lt, aw_e, nw_e, au_s, au_n, nu_s, nu_n, au_au, nu_nu, au_nu]; omega)⟩ ?_
        refine w_goto (tgt := 133) dX10_begin_193 rfl ?_
        -- at 133: .iload_n 3
        refine ih (by omega) _ _ _ _ _ G4 ?_
        rw [hS] at s ⊢
        simp only [] at s ⊢
        rw [show 8 * (i + 1) = 8 * i + 8 by omega, Cz (8 * i + W) (8 * i + 8) (by omega) (by omega) (fun z y0 y1 y => by have := y.1; omega)]
        exact s
      · intro j j0 j1 ihj _ v8 G4 s
        have s0 := s
        rw [hS] at s0
        obtain ⟨s1, s2⟩ := s0
        have hCr := Cr (8 * i + j) (by omega)
        have gi1 := ((s2 (27, 8 * f + 0, i) (rl_ne (by omega))).trans (ch3 _ (rl_ne (by omega)) (rl_ne (by omega)))).trans (bd2.2 i i0 i1).choose_spec.1
        have x1 := (bd2.2 i i0 i1).choose_spec.2 j j0 j1
        have hcs := Cs (8 * i + j) (by omega)
        have hop : opB σ f (8 * i + j) ↔ σ.2 37 (64 * f + 8 * i + j) = 0 := by
          unfold opB
          rw [← Int.add_assoc]
          exact ⟨fun y => y.2, fun y => ⟨by omega, y⟩⟩
        refine w_iload (pc' := 157) dX10_begin_155 rfl rfl ?_
        refine w_iload (pc' := 159) dX10_begin_157 rfl rfl ?_
        -- at 159: .if_icmp .ge 31
        refine w_icmp_ge (pc' := 162) (tgt := 190) dX10_begin_159 rfl rfl (fun h_ => False.elim (by first | omega | (simp (decide := true) only [au_1, nu_2, au_lt, nu_lt, aw_e, nw_e, au_s, au_n, nu_s, nu_n, au_au, nu_nu, au_nu] at h_; omega))) (fun h_ => ?_)
        refine w_aload (pc' := 164) dX10_begin_162 rfl rfl ?_
        refine w_iload (pc' := 166) dX10_begin_164 rfl rfl ?_
        refine w_iald (pc' := 167) dX10_begin_166 rfl gi1 j0 j1 ?_
        -- at 167: .istore 8
        rw [x1]
        by_cases ht : σ.2 37 (64 * f + 8 * i + j) = 0
        · rw [isB_0.mpr ht]
          rw [b1_t (hop.mpr ht)] at hcs
          refine w_ist8 (pc' := 169) dX10_begin_167 rfl rfl ?_
          refine w_iload (pc' := 171) dX10_begin_169 rfl rfl ?_
          -- at 171: .ifCond .ne 13
          refine w_if_ne (pc' := 174) (tgt := 184) dX10_begin_171 rfl rfl (fun h_ => False.elim (by first | omega | (simp (decide := true) only [au_1, nu_2, au_lt, nu_lt, aw_e, nw_e, au_s, au_n, nu_s, nu_n, au_au, nu_nu, au_nu] at h_; omega))) (fun h_ => ?_)
          refine w_aload_n (pc' := 175) dX10_begin_174 rfl rfl ?_
          refine w_dup (pc' := 176) dX10_begin_175 rfl rfl ?_
          refine w_get 16 (pc' := 179) dX10_begin_176 rfl fX10_110_8 s1 rfl ?_
          refine w_iconst (pc' := 180) dX10_begin_179 rfl (by decide) ?_
          refine w_iadd (pc' := 181) dX10_begin_180 rfl ⟨by first | omega | (simp (decide := true) only [au_1, nu_2, au_lt, nu_lt, aw_e, nw_e, au_s, au_n, nu_s, nu_n, au_au, nu_nu, au_nu]; omega), by first | omega | (simp (decide := true) only [au_1, nu_2, au_lt, nu_lt, aw_e, nw_e, au_s, au_n, nu_s, nu_n, au_au, nu_nu, au_nu]; omega)⟩ ?_
          refine w_put 16 (pc' := 184) dX10_begin_181 rfl pX10_110_8 (by decide) s1 (Nat.le_of_ble_eq_true rfl) trivial ?_
          -- at 184: .iinc 7 1
          refine w_upd (fun G5 a5 f5 => ?_)
          refine w_inc7 (pc' := 187) dX10_begin_184 rfl rfl ⟨by first | omega | (simp (decide := true) only [au_1, nu_2, au_lt, nu_lt, aw_e, nw_e, au_s, au_n, nu_s, nu_n, au_au, nu_nu, au_nu]; omega), by first | omega | (simp (decide := true) only [au_1, nu_2, au_lt, nu_lt, aw_e, nw_e, au_s, au_n, nu_s, nu_n, au_au, nu_nu, au_nu]; omega)⟩ ?_
          refine w_goto (tgt := 155) dX10_begin_187 rfl ?_
          -- at 155: .iload 7
          refine ihj (by omega) _ G5 ?_
          rw [hS]
          simp only []
          rw [← Int.add_assoc, hcs]
          exact ⟨a5, fun q hq => (f5 q hq).trans (s2 q hq)⟩
        · have hz : isB σ f i j ≠ 0 := fun z => ht (isB_0.mp z)
          rw [b1_f (fun y => ht (hop.mp y)), Int.add_zero] at hcs
          refine w_ist8 (pc' := 169) dX10_begin_167 rfl rfl ?_
          refine w_iload (pc' := 171) dX10_begin_169 rfl rfl ?_
          -- at 171: .ifCond .ne 13
          refine w_if_ne (pc' := 174) (tgt := 184) dX10_begin_171 rfl rfl (fun h_ => ?_) (fun h_ => False.elim (by first | omega | (simp (decide := true) only [au_1, nu_2, au_lt, nu_lt, aw_e, nw_e, au_s, au_n, nu_s, nu_n, au_au, nu_nu, au_nu] at h_; omega)))
          refine w_inc7 (pc' := 187) dX10_begin_184 rfl rfl ⟨by first | omega | (simp (decide := true) only [au_1, nu_2, au_lt, nu_lt, aw_e, nw_e, au_s, au_n, nu_s, nu_n, au_au, nu_nu, au_nu]; omega), by first | omega | (simp (decide := true) only [au_1, nu_2, au_lt, nu_lt, aw_e, nw_e, au_s, au_n, nu_s, nu_n, au_au, nu_nu, au_nu]; omega)⟩ ?_
          refine w_goto (tgt := 155) dX10_begin_187 rfl ?_
          -- at 155: .iload 7
          refine ihj (by omega) _ G4 ?_
          rw [hS]
          simp only []
          rw [← Int.add_assoc, hcs]
          exact ⟨s1, s2⟩
  have hle0 : leI σ f 0 = 2147483647 := by
    unfold leI
    rw [show min (0 : Int).toNat (σ.1 5).toNat = 0 by omega]
    rfl
  have hst : ∃ S : Int → GH → Prop, S = fun k G3 => G3 (fO f) = some (xob 8 (fob f H W 0 0 0 z3 2147483647 0 (leI σ f k) 0 z8 0)) ∧ (∀ q : Rl, q ≠ fO f → q ≠ (25, f, 1) → G3 q = G2 q) ∧ ∃ g, G3 (25, f, 1) = some (xar 0 40 g) ∧ ∀ j, 0 ≤ j → j < k → g j = σ.2 39 (40 * f + j) := ⟨_, rfl⟩
  obtain ⟨S, hS⟩ := hst
  refine w_iconst (pc' := 47) dX10_begin_46 rfl (by decide) ?_
  refine w_ist1 (pc' := 48) dX10_begin_47 rfl rfl ?_
  -- at 48: .iload_n 1
  refine up (T := fun k => 0 ≤ k → ∀ (G3 : GH), S k G3 → tvW mX10_begin (d + 3) K 48 [some (xR (fO f)), some (xI k), none, none, none, none, none, none, none] [] G3 bc bs) 40 (by omega) ?_ ?_ (Int.le_refl _) G2 (by rw [hS]; simp only []; rw [hle0]; exact ⟨a2, fun _ _ _ => trivial, lf0, lf1, fun j j0 j1 => by omega⟩)
  · intro _ G3 s
    rw [hS] at s
    obtain ⟨s1, s2, g, g1, g2⟩ := s
    refine w_iload_n (pc' := 49) dX10_begin_48 rfl rfl ?_
    refine w_bipush (pc' := 51) dX10_begin_49 rfl (by decide +kernel) (by decide) ?_
    -- at 51: .if_icmp .ge 72
    refine w_icmp_ge (pc' := 54) (tgt := 123) dX10_begin_51 rfl rfl (fun h_ => ?_) (fun h_ => False.elim (by first | omega | (simp (decide := true) only [au_1, nu_2, au_lt, nu_lt, aw_e, nw_e, au_s, au_n, nu_s, nu_n, au_au, nu_nu, au_nu] at h_; omega)))
    exact two _ _ _ _ _ _ _ _ G3 s1 s2 ⟨g, g1, fun k k0 k1 => by rw [cutl_in ⟨k0, k1⟩]; exact g2 k k0 (by omega)⟩
  · intro k k0 k1 ih _ G3 s
    rw [hS] at s
    obtain ⟨s1, s2, g, g1, g2⟩ := s
    have hsk := hd.2.2.2 k k0 k1
    have st3 := (s2 _ (rl_ne (by omega)) (rl_ne (by omega))).trans st1
    have sv := st2 k k0 k1
    have hof3 := (s2 oR (rl_ne (by omega)) (rl_ne (by omega))).trans hof2
    unfold off at hof3
    have kin3 : Rkin σ G3 := Rkin_o (f := f) (fun q y1 y2 y3 => s2 q (fun z => y2 (by rw [z]; exact ⟨by simp only []; omega, rfl⟩)) (fun z => y2 (by rw [z]; exact ⟨by simp only []; omega, rfl⟩))) kin2
    obtain ⟨lf, hlO⟩ := lst_o kin3.1
    refine w_iload_n (pc' := 49) dX10_begin_48 rfl rfl ?_
    refine w_bipush (pc' := 51) dX10_begin_49 rfl (by decide +kernel) (by decide) ?_
    -- at 51: .if_icmp .ge 72
    refine w_icmp_ge (pc' := 54) (tgt := 123) dX10_begin_51 rfl rfl (fun h_ => False.elim (by first | omega | (simp (decide := true) only [au_1, nu_2, au_lt, nu_lt, aw_e, nw_e, au_s, au_n, nu_s, nu_n, au_au, nu_nu, au_nu] at h_; omega))) (fun h_ => ?_)
    refine w_aload_n (pc' := 55) dX10_begin_54 rfl rfl ?_
    refine w_get 4 (pc' := 58) dX10_begin_55 rfl fX10_19_8 s1 rfl ?_
    refine w_iload_n (pc' := 59) dX10_begin_58 rfl rfl ?_
    refine w_aload_n (pc' := 60) dX10_begin_59 rfl rfl ?_
    refine w_get 3 (pc' := 63) dX10_begin_60 rfl fX10_15_8 s1 rfl ?_
    refine w_iload_n (pc' := 64) dX10_begin_63 rfl rfl ?_
    refine w_iald (pc' := 65) dX10_begin_64 rfl st3 k0 (by omega) ?_
    -- at 65: .iastore
    rw [sv]
    refine w_iast (pc' := 66) dX10_begin_65 rfl g1 k0 (by omega)  ?_
    -- at 66: .aload_n 0
    refine w_upd (fun G4 a4 f4 => ?_)
    have s1 := (f4 _ (rl_ne (by omega))).trans s1
    have st3 := (f4 _ (rl_ne (by omega))).trans st3
    have hof3 := (f4 _ (rl_ne (by omega))).trans hof3
    have hlO := (f4 _ (rl_ne (by omega))).trans hlO
    have ch4 : ∀ q : Rl, q ≠ fO f → q ≠ (25, f, 1) → G4 q = G2 q := fun q y1 y2 => (f4 q y2).trans (s2 q y1 y2)
    have kin4 : Rkin σ G4 := Rkin_o (f := f) (ffo_r (ffr_s (by omega) f4)) kin3
    have a4' : ∃ g, G4 (25, f, 1) = some (xar 0 40 g) ∧ ∀ j, 0 ≤ j → j < k + 1 → g j = σ.2 39 (40 * f + j) := by
      refine ⟨_, a4, fun j j0 j1 => ?_⟩
      unfold iset
      by_cases e : j = k
      · rw [if_pos e, e]
      · rw [if_neg e]
        exact g2 j j0 (by omega)
    have same : (σ.2 39 (40 * f + k) = 0 ∨ ¬ k < σ.1 5) → leI σ f (k + 1) = leI σ f k := by
      intro q
      unfold leI
      by_cases e : k < σ.1 5
      · rw [show min (k + 1).toNat (σ.1 5).toNat = k.toNat + 1 by omega, show min k.toNat (σ.1 5).toNat = k.toNat by omega, lcs_s, if_pos (by rw [show ((k.toNat : Nat) : Int) = k by omega]; exact q.resolve_right (fun y => y e))]
      · rw [show min (k + 1).toNat (σ.1 5).toNat = min k.toNat (σ.1 5).toNat by omega]
    have nxt : ∀ G5 : GH, S (k + 1) G5 → tvW mX10_begin (d + 3) K 117 [some (xR (fO f)), some (xI k), none, none, none, none, none, none, none] [] G5 bc bs := by
      intro G5 s
      refine w_inc1 (pc' := 120) dX10_begin_117 rfl rfl ⟨by first | omega | (simp (decide := true) only [au_1, nu_2, au_lt, nu_lt, aw_e, nw_e, au_s, au_n, nu_s, nu_n, au_au, nu_nu, au_nu]; omega), by first | omega | (simp (decide := true) only [au_1, nu_2, au_lt, nu_lt, aw_e, nw_e, au_s, au_n, nu_s, nu_n, au_au, nu_nu, au_nu]; omega)⟩ ?_
      refine w_goto (tgt := 48) dX10_begin_120 rfl ?_
      -- at 48: .iload_n 1
      exact ih (by omega) G5 s
    refine w_aload_n (pc' := 67) dX10_begin_66 rfl rfl ?_
    refine w_get 3 (pc' := 70) dX10_begin_67 rfl fX10_15_8 s1 rfl ?_
    refine w_iload_n (pc' := 71) dX10_begin_70 rfl rfl ?_
    refine w_iald (pc' := 72) dX10_begin_71 rfl st3 k0 (by omega) ?_
    -- at 72: .ifCond .le 45
    rw [sv]
    refine w_if_le (pc' := 75) (tgt := 117) dX10_begin_72 rfl rfl (fun q => ?_) (fun q => ?_)
    · refine nxt G4 ?_
      rw [hS]
      simp only []
      rw [same (Or.inl (by omega))]
      exact ⟨s1, ch4, a4'⟩
    · refine w_iload_n (pc' := 76) dX10_begin_75 rfl rfl ?_
      refine w_aload_n (pc' := 77) dX10_begin_76 rfl rfl ?_
      refine w_get 19 (pc' := 80) dX10_begin_77 rfl fX10_3_8 s1 rfl ?_
      refine w_get 0 (pc' := 83) dX10_begin_80 rfl fX10_52_0 hof3 rfl ?_
      -- at 83: .invokevirtual 72
      refine w_callV0 (pc' := 86) (mc := 0) (ms := 0) dX10_begin_83 rfl tJ2_size q207 rfl rfl q208 q980 hlO rfl (Nat.le_of_ble_eq_true rfl) (Nat.le_of_ble_eq_true rfl) ?_
      refine c_J2_size kin4.1 ?_
      refine w_p1 ?_
      refine w_icmp_ge (pc' := 89) (tgt := 117) dX10_begin_86 rfl rfl (fun q2 => ?_) (fun q2 => ?_)
      · refine nxt G4 ?_
        rw [hS]
        simp only []
        rw [same (Or.inr (by omega))]
        exact ⟨s1, ch4, a4'⟩
      · have tl := kin4.2 k k0 (by omega)
        have tC := (hK.2 k k0 (by omega)).2.2.1
        refine w_aload_n (pc' := 90) dX10_begin_89 rfl rfl ?_
        refine w_aload_n (pc' := 91) dX10_begin_90 rfl rfl ?_
        refine w_get 15 (pc' := 94) dX10_begin_91 rfl fX10_107_8 s1 rfl ?_
        refine w_aload_n (pc' := 95) dX10_begin_94 rfl rfl ?_
        refine w_get 19 (pc' := 98) dX10_begin_95 rfl fX10_3_8 s1 rfl ?_
        refine w_get 0 (pc' := 101) dX10_begin_98 rfl fX10_52_0 hof3 rfl ?_
        refine w_iload_n (pc' := 102) dX10_begin_101 rfl rfl ?_
        -- at 102: .invokevirtual 56
        refine w_callV1 (pc' := 105) (mc := 0) (ms := 0) dX10_begin_102 rfl tJ2_get q211 rfl rfl q212 q952 hlO rfl (Nat.le_of_ble_eq_true rfl) (Nat.le_of_ble_eq_true rfl) ?_
        refine c_J2_get kin4.1 ⟨k0, by omega⟩ ?_
        refine w_p1 ?_
        refine w_cast (pc' := 108) dX10_begin_105 rfl tl.1 rfl q953 ?_
        refine w_get 2 (pc' := 111) dX10_begin_108 rfl fX10_113_2 tl.1 rfl ?_
        refine w_mmin (pc' := 114) dX10_begin_111 rfl q981 (Nat.le_of_ble_eq_true rfl) ?_
        -- at 114: .putfield 107
        have eL : (if σ.2 2 k < leI σ f k then σ.2 2 k else leI σ f k) = leI σ f (k + 1) := by
          unfold leI
          rw [show min (k + 1).toNat (σ.1 5).toNat = k.toNat + 1 by omega, show min k.toNat (σ.1 5).toNat = k.toNat by omega, lcs_s, show ((k.toNat : Nat) : Int) = k by omega, if_neg (show ¬ σ.2 39 (40 * f + k) = 0 by omega)]
          cases lcs σ f k.toNat with
          | none =>
            show (if σ.2 2 k < 2147483647 then σ.2 2 k else 2147483647) = σ.2 2 k
            exact if_pos (by omega)
          | some v =>
            show (if σ.2 2 k < v then σ.2 2 k else v) = (if v ≤ σ.2 2 k then some v else some (σ.2 2 k)).getD 2147483647
            by_cases z : v ≤ σ.2 2 k
            · rw [if_pos z, if_neg (show ¬ σ.2 2 k < v by omega)]
              rfl
            · rw [if_neg z, if_pos (show σ.2 2 k < v by omega)]
              rfl
        rw [eL]
        refine w_put 15 (pc' := 117) dX10_begin_114 rfl pX10_107_8 (by decide) s1 (Nat.le_of_ble_eq_true rfl) trivial ?_
        -- at 117: .iinc 1 1
        refine w_upd (fun G5 a5 f5 => ?_)
        have a4 := (f5 _ (rl_ne (by omega))).trans a4
        refine nxt G5 ?_
        rw [hS]
        refine ⟨a5, fun q y1 y2 => (f5 q y1).trans (ch4 q y1 y2), ?_⟩
        obtain ⟨g', g1', g2'⟩ := a4'
        exact ⟨g', (f5 _ (rl_ne (by omega))).trans g1', g2'⟩
end
