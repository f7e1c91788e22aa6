set_option maxRecDepth 10000
theorem lsc_c {G : GH} {a n : Int} {c : Nat} {f f' : Int → Option Rl} (hf : ∀ i, 0 ≤ i → i < n → f i = f' i) (h : lsc G a n c f) : lsc G a n c f' := by
  obtain ⟨h0, mc, j, e, hO, h1, h2, h3, h4⟩ := h
  refine ⟨h0, mc, j, e, hO, h1, h2, h3, ?_⟩
  rcases h4 with ⟨e1, g, hg, hg'⟩ | h4
  · exact Or.inl ⟨e1, g, hg, fun i i0 i1 => (hg' i i0 i1).trans (hf i i0 i1)⟩
  · exact Or.inr h4
section
variable {d : Nat} {K : Option XV → GH → Prop} {G : GH} {bc bs : Nat} {σ : MS}
/-- what stands when t rows have grown -/
def gwS (σ : MS) (P : GP) (r a' M : Int) (H W c : Nat) (ρ' : Int → Int) (t : Int) (G G1 : GH) : Prop := gwf ρ' M a' r G G1 ∧ rul G1 r H W (uB σ r) ∧ lsc G1 a' t c (fun k => some (rO (ρ' k))) ∧ (∀ k, 0 ≤ k → k < t → row G1 (ρ' k) (P.1 (k / H) * W) (P.2.1 (k / H) * W) (fun s => blk σ r (P.2.2 (k / H) (s / W)) (k % H) (s % W))) ∧ ∀ (t' : Nat) (k : Int), 14 ≤ t' → t' < 18 → t ≤ k → k < M → G1 (t', ρ' k, 0) = none
theorem c_X0_grown_y {a a' m r i y M : Int} {ρ ρ' : Int → Int} {P : GP} {H W c : Nat} {mc ms : Nat} {u ma li : Int} {rg : Option Rl} {G1 : GH} (hS : gwS σ P r a' M H W c ρ' (i * H + y) G G1) (eM : M = m * H) (hM6 : M ≤ 60) (ec : (c : Int) = M) (hrow : row G (ρ i) (P.1 i) (P.2.1 i) (P.2.2 i)) (i0 : 0 ≤ i) (i1 : i < m) (hP : gpok σ m P) (hok : okS σ r m P) (eH : (H : Int) = σ.2 26 r) (eW : (W : Int) = σ.2 27 r) (hr : 0 ≤ r ∧ r < σ.1 29) (hK : kok σ) (hQ : qok σ) (hkin : Rkin σ G) (hof : off G u ma li rg) (hy : 0 ≤ y ∧ y < H)
    (inj : ∀ i j, 0 ≤ i → i < M → 0 ≤ j → j < M → ρ' i = ρ' j → i = j) (dis : ∀ k, 0 ≤ k → k < M → ρ' k ≠ ρ i) (hmc : 4 + 16 * phi G1 r ≤ mc) (hms : 184 + 63 * phi G1 r ≤ ms) (ha' : 0 ≤ a')
    (kk : ∀ (G2 : GH) (mc' ms' : Nat) (v v' : Option XV), gwS σ P r a' M H W c ρ' (i * H + y + 1) G G2 → (mc' : Int) + 4 + 16 * phi G1 r = mc + 16 * phi G2 r → (ms' : Int) + 184 + 63 * phi G1 r = ms + 63 * phi G2 r → tvW mX0_grown (d + 7) K 140 [some (xR oR), some (xR (lO a)), some (xR (uO r)), some (xR (lO a')), some (xI i), (some (xR (rO (ρ i)))), (some (xI y)), v, v'] [] G2 mc' ms') {v7 v8 : Option XV} : tvW mX0_grown (d + 7) K 52 [some (xR oR), some (xR (lO a)), some (xR (uO r)), some (xR (lO a')), some (xI i), (some (xR (rO (ρ i)))), (some (xI y)), v7, v8] [] G1 mc ms := by
  have hq := hQ.2 r hr.1 hr.2
  obtain ⟨⟨l0, l1⟩, ⟨o0, o1⟩, -⟩ := hP i i0 i1
  obtain ⟨w1, w2, -⟩ := hok.2 i i0 i1
  rw [← eW] at w1 w2
  obtain ⟨f1, u1, ls1, rows1, free1⟩ := hS
  have hyH : 0 ≤ i * (H : Int) := Int.mul_nonneg i0 (by omega)
  have hyH2 : (i + 1) * (H : Int) ≤ m * H := Int.mul_le_mul (by omega) (by omega) (by omega) (by omega)
  rw [Int.add_mul, Int.one_mul, ← eM] at hyH2
  generalize ht : i * (H : Int) + y = t at *
  have t0 : 0 ≤ t ∧ t < M := by omega
  have hdv : t / H = i ∧ t % H = y := by
    rw [← ht]
    exact ixd (a := i) hy.1 (by omega)
  have f1' : ∀ z : Rl, ¬ ((14 ≤ z.1 ∧ z.1 < 18) ∧ ∃ i, 0 ≤ i ∧ i < M ∧ z.2.1 = ρ' i) → z.1 ≠ 21 → ¬ ((z.1 = 30 ∨ z.1 = 31) ∧ z.2.1 = a') → ¬ ((33 ≤ z.1 ∧ z.1 < 38) ∧ -(40 * r + 40) ≤ z.2.1 ∧ z.2.1 ≤ -1 - 40 * r) → G1 z = G z := fun z z1 z2 z3 z4 => f1 z z1 z3 (fun y => z2 (by rw [y])) z4
  have hr1 : row G1 (ρ i) (P.1 i) (P.2.1 i) (P.2.2 i) := row_e (fun t t0 t1 => f1' _ (fun z => by obtain ⟨-, k, k0, k1, e⟩ := z; exact dis k k0 k1 e.symm) (by simp only []; omega) (by simp only []; omega) (by simp only []; omega)) hrow
  have hof1 := (f1' oR (fun z => by have := z.1; simp only [] at this; omega) (by decide) (by simp only []; omega) (by simp only []; omega)).trans hof
  have kin1 : Rkin σ G1 := Rkin_fr2 (fun z hz => f1' z (fun y => by have := y.1; omega) (by omega) (by omega) (by omega)) hkin
  have hr1' := hr1
  obtain ⟨ro, n, fk, fm, fs, hn, ak, am, as, hC⟩ := hr1
  obtain ⟨n', hn'⟩ : ∃ n' : Nat, (n' : Int) = P.1 i * W := ⟨(P.1 i * W).toNat, by have := Int.mul_nonneg l0 (show 0 ≤ (W : Int) by omega); omega⟩
  have h14 := free1 14 t (by omega) (by omega) (Int.le_refl _) t0.2
  have h15 := free1 15 t (by omega) (by omega) (Int.le_refl _) t0.2
  have h16 := free1 16 t (by omega) (by omega) (Int.le_refl _) t0.2
  have h17 := free1 17 t (by omega) (by omega) (Int.le_refl _) t0.2
  have hro := u1.1
  have hp0 := (phi_r (G := G1) (r := r)).1
  obtain ⟨mc2, rfl⟩ : ∃ m', mc = m' + 4 := ⟨mc - 4, by omega⟩
  obtain ⟨ms2, rfl⟩ : ∃ m', ms = m' + 184 := ⟨ms - 184, by omega⟩
  have hdt := dis t t0.1 t0.2
  refine w_less (bc' := mc2 + 3 + 1) (bs' := ms2 + 180 + 4) (by omega) (by omega) ?_
  refine w_new (N := 4) (rO (ρ' t)) (pc' := 55) dX0_grown_52 rfl nX0_138 (by assumption) (by first | assumption | simp) ?_
  -- at 55: .dup
  refine w_upd (fun G2 a2 f2 => ?_)
  have h15 := (f2 _ (rl_ne (by omega))).trans h15
  have h16 := (f2 _ (rl_ne (by omega))).trans h16
  have h17 := (f2 _ (rl_ne (by omega))).trans h17
  have hro := (f2 _ (rl_ne (by omega))).trans hro
  have ro := (f2 _ (rl_ne (by omega))).trans ro
  have ak := (f2 _ (rl_ne (by omega))).trans ak
  refine w_dup (pc' := 56) dX0_grown_55 rfl rfl ?_
  refine w_aload (pc' := 58) dX0_grown_56 rfl rfl ?_
  refine w_get 0 (pc' := 61) dX0_grown_58 rfl fX0_187_5 ro rfl ?_
  refine w_alen (pc' := 62) dX0_grown_61 rfl ak ?_
  -- at 62: .aload_n 2
  rw [hn]
  refine w_aload_n (pc' := 63) dX0_grown_62 rfl rfl ?_
  refine w_get 1 (pc' := 66) dX0_grown_63 rfl fX0_231_7 hro rfl ?_
  refine w_imul (pc' := 67) dX0_grown_66 rfl ⟨by first | omega | (simp (decide := true) only [au_1, nu_2, au_lt, nu_lt, aw_e, nw_e, au_s, au_n, nu_s, nu_n, au_au, nu_nu, au_nu]; omega), by first | omega | (simp (decide := true) only [au_1, nu_2, au_lt, nu_lt, aw_e, nw_e, au_s, au_n, nu_s, nu_n, au_au, nu_nu, au_nu]; omega)⟩ ?_
  refine w_aload (pc' := 69) dX0_grown_67 rfl rfl ?_
  refine w_get 3 (pc' := 72) dX0_grown_69 rfl fX0_181_5 ro rfl ?_
  refine w_aload_n (pc' := 73) dX0_grown_72 rfl rfl ?_
  refine w_get 1 (pc' := 76) dX0_grown_73 rfl fX0_231_7 hro rfl ?_
  refine w_imul (pc' := 77) dX0_grown_76 rfl ⟨by first | omega | (simp (decide := true) only [au_1, nu_2, au_lt, nu_lt, aw_e, nw_e, au_s, au_n, nu_s, nu_n, au_au, nu_nu, au_nu]; omega), by first | omega | (simp (decide := true) only [au_1, nu_2, au_lt, nu_lt, aw_e, nw_e, au_s, au_n, nu_s, nu_n, au_au, nu_nu, au_nu]; omega)⟩ ?_
  -- at 77: .invokespecial 160
  rw [← hn']
  refine w_callI2 (pc' := 80) (mc := 3) (ms := 180) dX0_grown_77 rfl tX6_init rfl rfl q428 (Or.inl q427) rfl (Nat.le_of_ble_eq_true rfl) (Nat.le_of_ble_eq_true rfl) ?_
  refine c_X6_init a2 h15 h16 h17 (by omega) (fun G3 f3 r3 => w_p0 ?_)
  rw [hn'] at r3
  have ch3 : ∀ z : Rl, ¬ ((14 ≤ z.1 ∧ z.1 < 18) ∧ z.2.1 = ρ' t) → G3 z = G1 z := fun z hz => (f3 z hz).trans (f2 z (fun y => hz (by rw [y]; exact ⟨by simp only []; omega, rfl⟩)))
  have ls3 : lsc G3 a' t c (fun k => some (rO (ρ' k))) := lsc_fr (fun z z1 z2 => ch3 z (by omega)) ls1
  obtain ⟨lf3, hlO3⟩ := lst_o (lsc_l ls3)
  refine w_ast7 (pc' := 82) dX0_grown_80 rfl rfl ?_
  refine w_aload_n (pc' := 83) dX0_grown_82 rfl rfl ?_
  refine w_aload (pc' := 85) dX0_grown_83 rfl rfl ?_
  -- at 85: .invokevirtual 98
  refine w_callV1 (pc' := 88) (mc := 0) (ms := 0) dX0_grown_85 rfl tJ2_add q257 rfl rfl q258 q256 hlO3 rfl (Nat.le_of_ble_eq_true rfl) (Nat.le_of_ble_eq_true rfl) ?_
  refine c_J2_addC ls3 (by omega) ⟨_, rfl, Or.inr ⟨_, rfl, q1586⟩⟩ r3.1 (Or.inl (by decide : (14 : Nat) < 30)) (fun G4 f4 l4 => w_p1 ?_)
  have l4 : lsc G4 a' (t + 1) c (fun k => some (rO (ρ' k))) := lsc_c (fun k k0 k1 => by unfold rset; split <;> simp [*]) l4
  have ch4 : ∀ z : Rl, ¬ ((14 ≤ z.1 ∧ z.1 < 18) ∧ z.2.1 = ρ' t) → ¬ ((z.1 = 30 ∨ z.1 = 31) ∧ z.2.1 = a') → G4 z = G1 z := fun z z1 z2 => (f4 z z2).trans (ch3 z z1)
  have r4 : row G4 (ρ' t) (P.1 i * W) (P.2.1 i * W) (fun _ => 0) := row_e (fun t t0 t1 => f4 _ (by simp only []; omega)) r3
  have ro4 : row G4 (ρ i) (P.1 i) (P.2.1 i) (P.2.2 i) := row_e (fun t t0 t1 => ch4 _ (by simp only []; omega) (by simp only []; omega)) hr1'
  have u4 : rul G4 r H W (uB σ r) := rul_fr (ch4 _ (by simp only []; omega) (by simp only []; omega)) (ch4 _ (by simp only []; omega) (by simp only []; omega)) (fun k k0 k1 z z1 z2 => ch4 z (by omega) (by omega)) u1
  have hof4 := (ch4 oR (by simp only []; omega) (by simp only []; omega)).trans hof1
  have kin4 : Rkin σ G4 := Rkin_fr2 (fun z hz => ch4 z (by omega) (by omega)) kin1
  have hph : phi G4 r = phi G1 r := phi_c (fun z z1 _ _ => ch4 z (by omega) (by omega))
  refine w_pop (pc' := 89) dX0_grown_88 rfl rfl ?_
  -- at 89: .iconst 0
  refine c_X0_grown_x (m := m) ro4 r4 hdt i0 i1 hP hok u4 eH eW hr hK hQ kin4 hof4 hy (by omega) (by omega) (fun G5 mc5 ms5 v f5 u5 r5 e1 e2 => ?_)
  refine kk G5 mc5 ms5 _ _ ⟨?_, u5, ?_, fun k k0 k1 => ?_, fun t' k t0' t1' k0 k1 => ?_⟩ (by omega) (by omega)
  · intro z z1 z2 z3 z4
    have y1 : ¬ ((14 ≤ z.1 ∧ z.1 < 18) ∧ z.2.1 = ρ' t) := fun y => z1 ⟨y.1, t, t0.1, t0.2, y.2⟩
    exact ((f5 z y1 z3 z4).trans (ch4 z y1 z2)).trans (f1 z z1 z2 z3 z4)
  · exact lsc_fr (fun z z1 z2 => f5 z (by omega) (fun y => by rw [y] at z1; simp only [] at z1; omega) (by omega)) l4
  · by_cases e : k = t
    · rw [e, hdv.1, hdv.2]
      exact r5
    · have hkt : ρ' k ≠ ρ' t := fun y => e (inj k t k0 (by omega) t0.1 t0.2 y)
      exact row_e (fun t' t0' t1' => (f5 _ (by simp only []; omega) (rl_ne (by omega)) (by simp only []; omega)).trans (ch4 _ (by simp only []; omega) (by simp only []; omega))) (rows1 k k0 (by omega))
  · have hkt : ρ' k ≠ ρ' t := fun y => by have := inj k t (by omega) k1 t0.1 t0.2 y; omega
    rw [f5 _ (by simp only []; omega) (rl_ne (by omega)) (by simp only []; omega), ch4 _ (by simp only []; omega) (by simp only []; omega)]
    exact free1 t' k t0' t1' (by omega) k1
theorem c_X0_grown {a a' m r : Int} {ρ ρ' : Int → Int} {P : GP} {H W : Nat} {u ma li : Int} {rg : Option Rl} (hl : lst G a m (fun i => some (rO (ρ i)))) (hrow : ∀ i, 0 ≤ i → i < m → row G (ρ i) (P.1 i) (P.2.1 i) (P.2.2 i)) (hP : gpok σ m P) (hok : okS σ r m P) (hU : rul G r H W (uB σ r)) (eH : (H : Int) = σ.2 26 r) (eW : (W : Int) = σ.2 27 r) (hr : 0 ≤ r ∧ r < σ.1 29) (hK : kok σ) (hQ : qok σ) (hkin : Rkin σ G) (hof : off G u ma li rg) (haa : a' ≠ a) (ha' : 0 ≤ a') (hN : G (lO a') = none) (hA : ∀ j, G (lA a' j) = none)
    (hfr : ∀ (t : Nat) (i : Int), 14 ≤ t → t < 18 → 0 ≤ i → i < m * H → G (t, ρ' i, 0) = none) (inj : ∀ i j, 0 ≤ i → i < m * H → 0 ≤ j → j < m * H → ρ' i = ρ' j → i = j) (dis : ∀ k i, 0 ≤ k → k < m * H → 0 ≤ i → i < m → ρ' k ≠ ρ i)
    (h : ∀ G', gwf ρ' (m * H) a' r G G' → rul G' r H W (uB σ r) → lst G' a' (m * H) (fun i => some (rO (ρ' i))) → (∀ i, 0 ≤ i → i < m * H → row G' (ρ' i) ((gpS σ r P).1 i) ((gpS σ r P).2.1 i) ((gpS σ r P).2.2 i)) → K (some (xR (lO a'))) G') : tvW mX0_grown (d + 7) K 0 [some (xR oR), some (xR (lO a)), some (xR (uO r)), none, none, none, none, none, none] [] G 882 13623 := by
  have hq := hQ.2 r hr.1 hr.2
  have hm := hl.1
  have hM6 : m * (H : Int) ≤ 60 := by rw [eH]; exact hok.1
  have hM0 : 0 ≤ m * (H : Int) := Int.mul_nonneg hm (by omega)
  have hm60 : m ≤ 60 := by have := Int.mul_le_mul (Int.le_refl m) (show (1 : Int) ≤ H by omega) (by omega) hm; omega
  obtain ⟨lf, hlO⟩ := lst_o hl
  have hro := hU.1
  obtain ⟨c, ec⟩ : ∃ c : Nat, (c : Int) = m * H := ⟨(m * H).toNat, by omega⟩
  refine w_new (N := 3) (lO a') (pc' := 3) dX0_grown_0 rfl nX0_7 (by assumption) (by first | assumption | simp) ?_
  -- at 3: .dup
  refine w_upd (fun G1 a1 f1 => ?_)
  have hlO := (f1 _ (rl_ne (by omega))).trans hlO
  have hro := (f1 _ (rl_ne (by omega))).trans hro
  have hA1 : ∀ j, G1 (lA a' j) = none := fun j => (f1 _ (rl_ne (by omega))).trans (hA j)
  have hl1 : lst G1 a m (fun i => some (rO (ρ i))) := lst_of_fr (fun q q1 q2 => f1 q (fun z => by rw [z] at q2; simp only [] at q2; omega)) hl
  refine w_dup (pc' := 4) dX0_grown_3 rfl rfl ?_
  refine w_aload_n (pc' := 5) dX0_grown_4 rfl rfl ?_
  -- at 5: .invokevirtual 54
  refine w_callV0 (pc' := 8) (mc := 0) (ms := 0) dX0_grown_5 rfl tJ2_size q207 rfl rfl q208 q206 hlO rfl (Nat.le_of_ble_eq_true rfl) (Nat.le_of_ble_eq_true rfl) ?_
  refine c_J2_size hl1 ?_
  refine w_p1 ?_
  refine w_aload_n (pc' := 9) dX0_grown_8 rfl rfl ?_
  refine w_get 0 (pc' := 12) dX0_grown_9 rfl fX0_229_7 hro rfl ?_
  refine w_imul (pc' := 13) dX0_grown_12 rfl ⟨by first | omega | (simp (decide := true) only [au_1, nu_2, au_lt, nu_lt, aw_e, nw_e, au_s, au_n, nu_s, nu_n, au_au, nu_nu, au_nu]; omega), by first | omega | (simp (decide := true) only [au_1, nu_2, au_lt, nu_lt, aw_e, nw_e, au_s, au_n, nu_s, nu_n, au_au, nu_nu, au_nu]; omega)⟩ ?_
  -- at 13: .invokespecial 254
  rw [← ec]
  refine w_callI1 (pc' := 16) (mc := 1) (ms := 60) dX0_grown_13 rfl tJ2_init_3 rfl rfl q665 (Or.inl q664) rfl (Nat.le_of_ble_eq_true rfl) (Nat.le_of_ble_eq_true rfl) ?_
  refine c_J2_initC (f := fun k => some (rO (ρ' k))) a1 hA1 (by omega) (fun G2 f2 l2 => w_p0 ?_)
  have ch2 : ∀ z : Rl, ¬ ((z.1 = 30 ∨ z.1 = 31) ∧ z.2.1 = a') → G2 z = G z := fun z hz => (f2 z hz).trans (f1 z (fun y => hz (by rw [y]; exact ⟨Or.inl rfl, rfl⟩)))
  have u2 : rul G2 r H W (uB σ r) := rul_fr (ch2 _ (by simp only []; omega)) (ch2 _ (by simp only []; omega)) (fun k k0 k1 z z1 z2 => ch2 z (by omega)) hU
  have hph := phi_r (G := G2) (r := r)
  have eS : ∀ t G', gwS σ P r a' (m * H) H W c ρ' t G G' → gwf ρ' (m * H) a' r G G' ∧ rul G' r H W (uB σ r) ∧ lst G' a' t (fun k => some (rO (ρ' k))) := fun t G' h => ⟨h.1, h.2.1, lsc_l h.2.2.1⟩
  have old : ∀ G', gwf ρ' (m * H) a' r G G' → lst G' a m (fun i => some (rO (ρ i))) := fun G' h => lst_of_fr (fun q q1 q2 => h q (by omega) (by omega) (fun z => by rw [z] at q1; simp only [] at q1; omega) (by omega)) hl
  have hrowG : ∀ G', gwf ρ' (m * H) a' r G G' → ∀ i, 0 ≤ i → i < m → row G' (ρ i) (P.1 i) (P.2.1 i) (P.2.2 i) := fun G' h i i0 i1 => row_e (fun t t0 t1 => h _ (fun z => by obtain ⟨-, k, k0, k1, e⟩ := z; exact dis k i k0 k1 i0 i1 e.symm) (by simp only []; omega) (rl_ne (by omega)) (by simp only []; omega)) (hrow i i0 i1)
  refine w_ast3 (pc' := 17) dX0_grown_16 rfl rfl ?_
  refine w_iconst (pc' := 18) dX0_grown_17 rfl (by decide) ?_
  refine w_ist4 (pc' := 20) dX0_grown_18 rfl rfl ?_
  -- at 20: .iload 4
  refine up (T := fun i => 0 ≤ i → ∀ (v5 v6 v7 v8 : Option XV) (G1 : GH) (mc ms : Nat), gwS σ P r a' (m * H) H W c ρ' (i * H) G G1 → 4 * (m * H - i * H) + 16 * phi G1 r ≤ mc → 184 * (m * H - i * H) + 63 * phi G1 r ≤ ms → tvW mX0_grown (d + 7) K 20 [some (xR oR), some (xR (lO a)), some (xR (uO r)), some (xR (lO a')), some (xI i), v5, v6, v7, v8] [] G1 mc ms) m hm ?_ ?_ (Int.le_refl _) none none none none G2 880 13560 ?_ (by rw [Int.zero_mul]; omega) (by rw [Int.zero_mul]; omega)
  · intro _ v5 v6 v7 v8 G1 mc ms s _ _
    obtain ⟨s1, s2, s3⟩ := eS _ _ s
    have l1 := old G1 s1
    obtain ⟨lf1, hlO1⟩ := lst_o l1
    refine w_iload (pc' := 22) dX0_grown_20 rfl rfl ?_
    refine w_aload_n (pc' := 23) dX0_grown_22 rfl rfl ?_
    -- at 23: .invokevirtual 54
    refine w_callV0 (pc' := 26) (mc := 0) (ms := 0) dX0_grown_23 rfl tJ2_size q207 rfl rfl q208 q206 hlO1 rfl (Nat.le_of_ble_eq_true rfl) (Nat.le_of_ble_eq_true rfl) ?_
    refine c_J2_size l1 ?_
    refine w_p1 ?_
    refine w_icmp_ge (pc' := 29) (tgt := 152) dX0_grown_26 rfl rfl (fun h_ => ?_) (fun h_ => False.elim (by first | omega | (simp (decide := true) only [au_1, nu_2, au_lt, nu_lt, aw_e, nw_e, au_s, au_n, nu_s, nu_n, au_au, nu_nu, au_nu] at h_; omega)))
    refine w_aload_n (pc' := 153) dX0_grown_152 rfl rfl ?_
    -- at 153: .areturn
    refine w_areturn dX0_grown_153 rfl ?_
    refine h G1 s1 s2 s3 (fun k k0 k1 => ?_)
    have z := s.2.2.2.1 k k0 k1
    show row G1 (ρ' k) (P.1 (k / σ.2 26 r) * σ.2 27 r) (P.2.1 (k / σ.2 26 r) * σ.2 27 r) (fun s => blk σ r (P.2.2 (k / σ.2 26 r) (s / σ.2 27 r)) (k % σ.2 26 r) (s % σ.2 27 r))
    rw [← eH, ← eW]
    exact z
  · intro i i0 i1 ih _ v5 v6 v7 v8 G1 mc ms s hmc hms
    obtain ⟨s1, s2, s3⟩ := eS _ _ s
    have l1 := old G1 s1
    obtain ⟨lf1, hlO1⟩ := lst_o l1
    have hr1 := hrowG G1 s1 i i0 i1
    have hyH2 : (i + 1) * (H : Int) ≤ m * H := Int.mul_le_mul (by omega) (by omega) (by omega) (by omega)
    have eiH : (i + 1) * (H : Int) = i * H + H := by rw [Int.add_mul, Int.one_mul]
    rw [eiH] at hyH2 ih
    refine w_iload (pc' := 22) dX0_grown_20 rfl rfl ?_
    refine w_aload_n (pc' := 23) dX0_grown_22 rfl rfl ?_
    -- at 23: .invokevirtual 54
    refine w_callV0 (pc' := 26) (mc := 0) (ms := 0) dX0_grown_23 rfl tJ2_size q207 rfl rfl q208 q206 hlO1 rfl (Nat.le_of_ble_eq_true rfl) (Nat.le_of_ble_eq_true rfl) ?_
    refine c_J2_size l1 ?_
    refine w_p1 ?_
    refine w_icmp_ge (pc' := 29) (tgt := 152) dX0_grown_26 rfl rfl (fun h_ => False.elim (by first | omega | (simp (decide := true) only [au_1, nu_2, au_lt, nu_lt, aw_e, nw_e, au_s, au_n, nu_s, nu_n, au_au, nu_nu, au_nu] at h_; omega))) (fun h_ => ?_)
    refine w_aload_n (pc' := 30) dX0_grown_29 rfl rfl ?_
    refine w_iload (pc' := 32) dX0_grown_30 rfl rfl ?_
    -- at 32: .invokevirtual 58
    refine w_callV1 (pc' := 35) (mc := 0) (ms := 0) dX0_grown_32 rfl tJ2_get q211 rfl rfl q212 q210 hlO1 rfl (Nat.le_of_ble_eq_true rfl) (Nat.le_of_ble_eq_true rfl) ?_
    refine c_J2_get l1 ⟨i0, i1⟩ ?_
    refine w_p1 ?_
    refine w_cast (pc' := 38) dX0_grown_35 rfl hr1.1 rfl q425 ?_
    refine w_ast5 (pc' := 40) dX0_grown_38 rfl rfl ?_
    refine w_iconst (pc' := 41) dX0_grown_40 rfl (by decide) ?_
    refine w_ist6 (pc' := 43) dX0_grown_41 rfl rfl ?_
    -- at 43: .iload 6
    refine up (T := fun y => 0 ≤ y → ∀ (v7 v8 : Option XV) (G1 : GH) (mc ms : Nat), gwS σ P r a' (m * H) H W c ρ' (i * H + y) G G1 → 4 * (m * H - (i * H + y)) + 16 * phi G1 r ≤ mc → 184 * (m * H - (i * H + y)) + 63 * phi G1 r ≤ ms → tvW mX0_grown (d + 7) K 43 [some (xR oR), some (xR (lO a)), some (xR (uO r)), some (xR (lO a')), some (xI i), (some (xR (rO (ρ i)))), (some (xI y)), v7, v8] [] G1 mc ms) (H : Int) (by omega) ?_ ?_ (Int.le_refl _) v7 v8 G1 mc ms (by rw [Int.add_zero]; exact s) (by omega) (by omega)
    · intro _ v7 v8 G1 mc ms s hmc hms
      have hro1 := s.2.1.1
      refine w_iload (pc' := 45) dX0_grown_43 rfl rfl ?_
      refine w_aload_n (pc' := 46) dX0_grown_45 rfl rfl ?_
      refine w_get 0 (pc' := 49) dX0_grown_46 rfl fX0_229_7 hro1 rfl ?_
      -- at 49: .if_icmp .ge 97
      refine w_icmp_ge (pc' := 52) (tgt := 146) dX0_grown_49 rfl rfl (fun h_ => ?_) (fun h_ => False.elim (by first | omega | (simp (decide := true) only [au_1, nu_2, au_lt, nu_lt, aw_e, nw_e, au_s, au_n, nu_s, nu_n, au_au, nu_nu, au_nu] at h_; omega)))
      refine w_inc4 (pc' := 149) dX0_grown_146 rfl rfl ⟨by first | omega | (simp (decide := true) only [au_1, nu_2, au_lt, nu_lt, aw_e, nw_e, au_s, au_n, nu_s, nu_n, au_au, nu_nu, au_nu]; omega), by first | omega | (simp (decide := true) only [au_1, nu_2, au_lt, nu_lt, aw_e, nw_e, au_s, au_n, nu_s, nu_n, au_au, nu_nu, au_nu]; omega)⟩ ?_
      refine w_goto (tgt := 20) dX0_grown_149 rfl ?_
      -- at 20: .iload 4
      exact ih (by omega) _ _ _ _ G1 mc ms s hmc hms
    · intro y y0 y1 ihy _ v7 v8 G1 mc ms s hmc hms
      have hro1 := s.2.1.1
      refine w_iload (pc' := 45) dX0_grown_43 rfl rfl ?_
      refine w_aload_n (pc' := 46) dX0_grown_45 rfl rfl ?_
      refine w_get 0 (pc' := 49) dX0_grown_46 rfl fX0_229_7 hro1 rfl ?_
      -- at 49: .if_icmp .ge 97
      refine w_icmp_ge (pc' := 52) (tgt := 146) dX0_grown_49 rfl rfl (fun h_ => False.elim (by first | omega | (simp (decide := true) only [au_1, nu_2, au_lt, nu_lt, aw_e, nw_e, au_s, au_n, nu_s, nu_n, au_au, nu_nu, au_nu] at h_; omega))) (fun h_ => ?_)
      refine c_X0_grown_y s rfl hM6 ec (hrow i i0 i1) i0 i1 hP hok eH eW hr hK hQ hkin hof ⟨y0, y1⟩ inj (fun k k0 k1 => dis k i k0 k1 i0 i1) (by omega) (by omega) ha' (fun G2 mc2 ms2 v v' s2 e1 e2 => ?_)
      refine w_inc6 (pc' := 143) dX0_grown_140 rfl rfl ⟨by first | omega | (simp (decide := true) only [au_1, nu_2, au_lt, nu_lt, aw_e, nw_e, au_s, au_n, nu_s, nu_n, au_au, nu_nu, au_nu]; omega), by first | omega | (simp (decide := true) only [au_1, nu_2, au_lt, nu_lt, aw_e, nw_e, au_s, au_n, nu_s, nu_n, au_au, nu_nu, au_nu]; omega)⟩ ?_
      refine w_goto (tgt := 43) dX0_grown_143 rfl ?_
      -- at 43: .iload 6
      exact ihy (by omega) _ _ G2 mc2 ms2 (by rw [← Int.add_assoc]; exact s2) (by omega) (by omega)
  · rw [Int.zero_mul]
    refine ⟨fun z z1 z2 z3 z4 => ch2 z z2, u2, l2, fun k k0 k1 => by omega, fun t k t0 t1 k0 k1 => ?_⟩
    exact (ch2 _ (by simp only []; omega)).trans (hfr t k t0 t1 k0 k1)
end
