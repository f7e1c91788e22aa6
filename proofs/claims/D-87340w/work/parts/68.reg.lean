set_option maxRecDepth 10000
theorem Rx_undo {σ : MS} {pl cl : Int → Int} {N b : Int} {rg : Option Rl} {G G' : GH} {g' : Int → Option Rl} (hw : Rx σ (pl, cl, N, b, rg) G) (hP : pmo σ) (hU : uok σ) (hu : 0 < σ.1 16)
    (ch : ∀ q : Rl, q ≠ oR → q ≠ (5, 0, 0) → q ≠ pO (σ.2 13 (usl σ (σ.1 16 - 1))) → G' q = G q) (hO : off G' (σ.1 16 - 1) (σ.1 9) (σ.1 41) rg) (hA : G' (5, 0, 0) = some (xra 6 40 g')) (hg : ∀ t, 0 ≤ t → t < σ.1 16 - 1 → g' t = some (cO (cl t)))
    (hPo : G' (pO (σ.2 13 (usl σ (σ.1 16 - 1)))) = some (xob 3 [xR (lO (cl (σ.1 16 - 1)))])) : Rx (sUndo σ) (iset pl (σ.2 13 (usl σ (σ.1 16 - 1))) (cl (σ.1 16 - 1)), cl, N, b, rg) G' := by
  obtain ⟨hx1, hx2, hx3, hx4, hx5, hx6, hx7, hx8, hx9, hx10, hx11⟩ := Rx_un hw
  obtain ⟨i1, i2, i3, i4, i5, i6, i7⟩ := hx11
  obtain ⟨⟨u0, u1⟩, ⟨v0, v1⟩, hU⟩ := hU
  obtain ⟨g, -, hc⟩ := hx5
  have es : usl σ (σ.1 16 - 1) = (σ.1 17 + 39) % 40 := by
    show (σ.1 17 - 1 - (σ.1 16 - 1 - (σ.1 16 - 1))) % 40 = _
    omega
  have e0 : us_ σ 0 = (σ.1 17 + 39) % 40 := by
    show (σ.1 17 - 1 - 0) % 40 = _
    omega
  rw [es] at hPo ch ⊢
  obtain ⟨⟨P0, P1⟩, ⟨M0, M1⟩, -⟩ := hU 0 (by omega) (by omega)
  rw [e0] at P0 P1 M0 M1
  obtain ⟨-, -, lt⟩ := hc (σ.1 16 - 1) (by omega) (by omega)
  rw [es] at lt
  have ct := i4 (σ.1 16 - 1) (by omega) (by omega)
  have s0 : 0 ≤ (σ.1 17 + 39) % 40 ∧ (σ.1 17 + 39) % 40 < 40 := by omega
  have e10 : ∀ p k, rw_ (sUndo σ) p k = rfill (σ.2 10) (60 * σ.2 13 ((σ.1 17 + 39) % 40)) (σ.2 14 ((σ.1 17 + 39) % 40)) (fun q => σ.2 15 (60 * ((σ.1 17 + 39) % 40) + (q - 60 * σ.2 13 ((σ.1 17 + 39) % 40)))) (60 * p + k) := fun _ _ => rfl
  have e11 : ∀ p, (sUndo σ).2 11 p = iset (σ.2 11) (σ.2 13 ((σ.1 17 + 39) % 40)) (σ.2 14 ((σ.1 17 + 39) % 40)) p := fun _ => rfl
  have eu : ∀ t, t < σ.1 16 - 1 → usl (sUndo σ) t = usl σ t := by
    intro t ht
    show ((σ.1 17 + 39) % 40 - 1 - ((σ.1 16 - 1) - 1 - t)) % 40 = (σ.1 17 - 1 - (σ.1 16 - 1 - t)) % 40
    omega
  generalize hs : (σ.1 17 + 39) % 40 = s at *
  generalize hPP : σ.2 13 s = P at *
  have ch2 : ∀ q : Rl, q.1 ≠ 2 → q.1 ≠ 5 → q.1 ≠ 18 → G' q = G q := fun q q1 q2 q3 => ch q (fun z => q1 (by rw [z])) (fun z => q2 (by rw [z])) (fun z => q3 (by rw [z]))
  have g4 : Rpat (sUndo σ) G' (iset pl P (cl (σ.1 16 - 1))) := by
    refine ⟨lst_of_fr (fun q q1 q2 => ch2 q (by omega) (by omega) (by omega)) hx4.1, fun p p0 p1 => ?_⟩
    have p1 : p < σ.1 12 := p1
    rw [e11]
    unfold iset
    by_cases e : p = P
    · rw [if_pos e, if_pos e, e]
      refine ⟨hPo, lst_c (fun i i0 i1 => ?_) (lst_of_fr (fun q q1 q2 => ch2 q (by omega) (by omega) (by omega)) lt)⟩
      rw [e10]
      unfold rfill
      rw [if_pos (by omega)]
      simp only []
      rw [show 60 * P + i - 60 * P = i by omega]
    · rw [if_neg e, if_neg e]
      have hM := hP p p0 p1
      obtain ⟨a1, a2⟩ := hx4.2 p p0 p1
      refine ⟨(ch _ (rl_ne (by omega)) (rl_ne (by omega)) (rl_ne (by omega))).trans a1, lst_c (fun i i0 i1 => ?_) (lst_of_fr (fun q q1 q2 => ch2 q (by omega) (by omega) (by omega)) a2)⟩
      rw [e10]
      unfold rfill
      rw [if_neg (by omega)]
      rfl
  have g5 : Rchg (sUndo σ) G' cl := by
    refine ⟨g', hA, fun t t0 t1 => ?_⟩
    have t1 : t < σ.1 16 - 1 := t1
    obtain ⟨-, a2, a3⟩ := hc t t0 (by omega)
    rw [eu t t1]
    exact ⟨hg t t0 t1, (ch2 _ (by simp only []; omega) (by simp only []; omega) (by simp only []; omega)).trans a2, lst_of_fr (fun q q1 q2 => ch2 q (by omega) (by omega) (by omega)) a3⟩
  have g10 : fre (sUndo σ) N G' := fre_ch (σ := σ) (k := σ.1 5) (m := σ.1 9) (p := σ.1 12) (r := σ.1 29) (f := σ.1 40) rfl rfl rfl rfl rfl (Int.le_refl _) (Int.le_refl _) (Int.le_refl _) (Int.le_refl _) (Int.le_refl _) (Int.le_refl _) (fun q hq => ch q (fun z => by rw [z] at hq; unfold frq at hq; simp only [] at hq; omega) (fun z => by rw [z] at hq; unfold frq at hq; simp only [] at hq; omega) (fun z => by rw [z] at hq; unfold frq at hq; simp only [] at hq; omega)) hx10
  have g11 : ids (sUndo σ) (iset pl P (cl (σ.1 16 - 1))) cl N b := by
    refine ⟨i1, i2, fun p p0 p1 => ?_, fun t t0 t1 => i4 t t0 (by have z : t < σ.1 16 - 1 := t1; omega), fun p q p0 p1 q0 q1 e => ?_, fun s t a1 a2 a3 a4 => i6 s t a1 (by have z : s < σ.1 16 - 1 := a2; omega) a3 (by have z : t < σ.1 16 - 1 := a4; omega), fun p t p0 p1 t0 t1 => ?_⟩
    · unfold iset
      split
      · exact ct
      · exact i3 p p0 p1
    · unfold iset at e
      have x1 := i7 p (σ.1 16 - 1) p0 p1 (by omega) (by omega)
      have x2 := i7 q (σ.1 16 - 1) q0 q1 (by omega) (by omega)
      split at e
      · split at e
        · omega
        · exact absurd e.symm x2
      · split at e
        · exact absurd e x1
        · exact i5 p q p0 p1 q0 q1 e
    · have t1 : t < σ.1 16 - 1 := t1
      unfold iset
      split
      · intro e
        have := i6 (σ.1 16 - 1) t (by omega) (by omega) t0 (by omega) e
        omega
      · exact i7 p t p0 p1 t0 (by omega)
  have p2 : Rkin σ G' := Rkin_fr2 (fun q hq => ch2 q (by omega) (by omega) (by omega)) hx2
  have p3 : Rrow σ G' := Rrow_fr (fun q hq _ _ => ch2 q (by omega) (by omega) (by omega)) hx3
  have p6 : Rreg σ G' rg b := Rreg_fr (fun q hq _ => ch2 q (by omega) (by omega) (by omega)) hx6
  have p7 : Rrul σ G' := Rrul_fr (fun q hq => ch2 q (by omega) (by omega) (by omega)) hx7
  have p8 : Rflo σ G' := Rflo_fr (fun q hq => ch2 q (by omega) (by omega) (by omega)) hx8
  have p9 : Rscr G' := Rscr_fr (fun q hq => ch2 q (by omega) (by omega) (by omega)) hx9
  exact Rx_mk hO p2 p3 g4 g5 p6 p7 p8 p9 g10 g11
/-- a new region -/
theorem Rx_reg {σ τ : MS} {pl cl : Int → Int} {N b : Int} {rg : Option Rl} {G G' : GH} (hw : Rx σ (pl, cl, N, b, rg) G) (hr0 : 0 ≤ σ.1 29)
    (hn : ∀ k, k ≠ 18 → k ≠ 19 → k ≠ 24 → k ≠ 25 → τ.1 k = σ.1 k) (ha : ∀ k, k < 20 ∨ 23 < k → τ.2 k = σ.2 k) (ch : ∀ q : Rl, q ≠ oR → ¬ ((33 ≤ q.1 ∧ q.1 < 38) ∧ q.2.1 = N) → G' q = G q) (hO : off G' (σ.1 16) (σ.1 9) (σ.1 41) (some (33, N, 0))) (hr : Rreg τ G' (some (33, N, 0)) N) : Rx τ (pl, cl, N + 1, N, some (33, N, 0)) G' := by
  obtain ⟨hx1, hx2, hx3, hx4, hx5, hx6, hx7, hx8, hx9, hx10, hx11⟩ := Rx_un hw
  obtain ⟨i1, i2, i3, i4, i5, i6, i7⟩ := hx11
  have ch2 : ∀ q : Rl, q.1 ≠ 2 → ¬ ((33 ≤ q.1 ∧ q.1 < 38) ∧ q.2.1 = N) → G' q = G q := fun q q1 => ch q (fun z => q1 (by rw [z]))
  have g1 : off G' (τ.1 16) (τ.1 9) (τ.1 41) (some (33, N, 0)) := by
    rw [hn 16 (by decide) (by decide) (by decide) (by decide), hn 9 (by decide) (by decide) (by decide) (by decide), hn 41 (by decide) (by decide) (by decide) (by decide)]
    exact hO
  have g4 : Rpat τ G' pl := by
    have h4 : Rpat σ G' pl := Rpat_fr (fun p _ _ => ch2 _ (by simp only []; omega) (by simp only []; omega)) (fun q hq _ => ch2 q (by omega) (by omega)) (fun p p0 p1 q hq e => ch2 q (by omega) (by omega)) hx4
    unfold Rpat rw_ at *
    rw [hn 12 (by decide) (by decide) (by decide) (by decide), ha 10 (by decide), ha 11 (by decide)]
    exact h4
  have g5 : Rchg τ G' cl := Rchg_c (hn 16 (by decide) (by decide) (by decide) (by decide)) (hn 17 (by decide) (by decide) (by decide) (by decide)) (ha 13 (by decide)) (ha 14 (by decide)) (ha 15 (by decide)) (Rchg_fr (ch2 _ (by decide) (by simp only []; omega)) (fun _ _ _ => ch2 _ (by simp only []; omega) (by simp only []; omega)) (fun t t0 t1 q hq e => ch2 q (by omega) (by omega)) hx5)
  have g10 : fre τ (N + 1) G' := fre_ch (σ := σ) (k := σ.1 5) (m := σ.1 9) (p := σ.1 12) (r := σ.1 29) (f := σ.1 40) (hn 5 (by decide) (by decide) (by decide) (by decide)) (hn 9 (by decide) (by decide) (by decide) (by decide)) (hn 12 (by decide) (by decide) (by decide) (by decide)) (hn 29 (by decide) (by decide) (by decide) (by decide)) (hn 40 (by decide) (by decide) (by decide) (by decide)) (Int.le_refl _) (Int.le_refl _) (Int.le_refl _) (Int.le_refl _) (Int.le_refl _) (by omega) (fun q hq => ch2 q (by unfold frq at hq; omega) (by unfold frq at hq; omega)) hx10
  have g11 : ids τ pl cl (N + 1) N := by
    unfold ids
    rw [hn 12 (by decide) (by decide) (by decide) (by decide), hn 16 (by decide) (by decide) (by decide) (by decide)]
    refine ⟨by omega, by omega, fun p p0 p1 => ?_, fun t t0 t1 => ?_, i5, i6, i7⟩
    · have := i3 p p0 p1
      omega
    · have := i4 t t0 t1
      omega
  have p2 : Rkin τ G' := Rkin_c (hn 5 (by decide) (by decide) (by decide) (by decide)) (ha 0 (by decide)) (ha 1 (by decide)) (ha 2 (by decide)) (ha 3 (by decide)) (ha 4 (by decide)) (Rkin_fr2 (fun q hq => ch2 q (by omega) (by omega)) hx2)
  have p3 : Rrow τ G' := Rrow_c (hn 9 (by decide) (by decide) (by decide) (by decide)) (ha 6 (by decide)) (ha 7 (by decide)) (ha 8 (by decide)) (Rrow_fr (fun q hq _ _ => ch2 q (by omega) (by omega)) hx3)
  have p7 : Rrul τ G' := Rrul_c (hn 29 (by decide) (by decide) (by decide) (by decide)) (ha 26 (by decide)) (ha 27 (by decide)) (ha 28 (by decide)) (Rrul_fr (fun q hq => ch2 q (by omega) (by omega)) hx7)
  have p8 : Rflo τ G' := Rflo_c (hn 40 (by decide) (by decide) (by decide) (by decide)) (ha 35 (by decide)) (ha 36 (by decide)) (ha 37 (by decide)) (ha 38 (by decide)) (ha 39 (by decide)) (Rflo_fr (fun q hq => ch2 q (by omega) (by omega)) hx8)
  have p9 : Rscr G' := Rscr_fr (fun q hq => ch2 q (by omega) (by omega)) hx9
  exact Rx_mk g1 p2 p3 g4 g5 hr p7 p8 p9 g10 g11
theorem dv_m {y x W : Int} (hx : 0 ≤ x ∧ x < W) : (y * W + x) / W = y ∧ (y * W + x) % W = x := by
  have e : (y * W + x) / W = y := by
    rw [Int.add_comm, Int.add_mul_ediv_right _ _ (by omega), Int.ediv_eq_zero_of_lt hx.1 hx.2, Int.zero_add]
  refine ⟨e, ?_⟩
  rw [Int.emod_def, e, Int.mul_comm W y]
  omega
theorem prw_fr {G G' : GH} {a n : Int} {ρ L O : Int → Int} {C : Int → Int → Int} (hf : ∀ q : Rl, (14 ≤ q.1 ∧ q.1 < 18 ∨ q.1 = 30 ∨ q.1 = 31) → G' q = G q) (h : prw G a n ρ L O C) : prw G' a n ρ L O C := ⟨lst_of_fr (fun q q1 _ => hf q (Or.inr q1)) h.1, fun i i0 i1 => ⟨row_e (fun t t0 t1 => hf _ (Or.inl ⟨t0, t1⟩)) (h.2 i i0 i1).1, (h.2 i i0 i1).2⟩⟩
section
variable {M : tv_M} {pc : Nat} {L : List (Option XV)} {st : List XV} {d : Nat} {K : Option XV → GH → Prop} {G0 G : GH} {bc bs : Nat} {σ : MS} {w : RW}
/-- what lies in an array is in its range -/
theorem w_rt {r : Rl} {t n : Nat} {f : Int → Int} (hG : G r = some (xar t n f)) (kk : (∀ i, tv_rt t (f i)) → tvW M d K pc L st G bc bs) : tvW M d K pc L st G bc bs := by
  intro O ad0 G0 p l e R s m args below meth c Q E ad dom H locs cells slots ls S
  have hR := S.1
  exact kk (hR.2.2.2.1 r _ hG).2 O ad0 G0 p l e R s m args below meth c Q E ad dom H locs cells slots ls S
theorem c_X0_undo (hw : Rx σ w G) (hP : pok σ) (hU : uok σ) (h1 : 0 < σ.1 16 → ∀ G', tfr G G' → Rel (sUndo σ) G' → K (some (xI (σ.1 16 - 1))) G') (h0 : σ.1 16 = 0 → K (some (xI (-1))) G) : tvW mX0_undo (d + 7) K 0 [some (xR oR)] [] G bc bs := by
  obtain ⟨pl, cl, N, b, rg⟩ := w
  obtain ⟨hx1, hx2, hx3, hx4, hx5, hx6, hx7, hx8, hx9, hx10, hx11⟩ := Rx_un hw
  have hof := hx1
  unfold off at hof
  have hu := hU.1
  obtain ⟨g, hA, hc⟩ := hx5
  refine w_aload_n (pc' := 1) dX0_undo_0 rfl rfl ?_
  refine w_get 5 (pc' := 4) dX0_undo_1 rfl fX0_122_0 hof rfl ?_
  -- at 4: .ifCond .ne 5
  refine w_if_ne (pc' := 7) (tgt := 9) dX0_undo_4 rfl rfl (fun z => ?_) (fun z => ?_)
  · obtain ⟨c1, c2, -⟩ := hc (σ.1 16 - 1) (by omega) (by omega)
    have hPb := (hU.2.2 0 (by omega) (by omega)).1
    have es : usl σ (σ.1 16 - 1) = us_ σ 0 := by
      show (σ.1 17 - 1 - (σ.1 16 - 1 - (σ.1 16 - 1))) % 40 = (σ.1 17 - 1 - 0) % 40
      omega
    rw [← es] at hPb
    obtain ⟨hPo, -⟩ := hx4.2 _ hPb.1 hPb.2
    refine w_aload_n (pc' := 10) dX0_undo_9 rfl rfl ?_
    refine w_dup (pc' := 11) dX0_undo_10 rfl rfl ?_
    refine w_get 5 (pc' := 14) dX0_undo_11 rfl fX0_122_0 hof rfl ?_
    refine w_iconst (pc' := 15) dX0_undo_14 rfl (by decide) ?_
    refine w_isub (pc' := 16) dX0_undo_15 rfl ⟨by first | omega | (simp (decide := true) only [au_1, nu_2, au_lt, nu_lt, aw_e, nw_e, au_s, au_n, nu_s, nu_n, au_au, nu_nu, au_nu]; omega), by first | omega | (simp (decide := true) only [au_1, nu_2, au_lt, nu_lt, aw_e, nw_e, au_s, au_n, nu_s, nu_n, au_au, nu_nu, au_nu]; omega)⟩ ?_
    refine w_put 5 (pc' := 19) dX0_undo_16 rfl pX0_122_0 (by decide) hof (Nat.le_of_ble_eq_true rfl) trivial ?_
    -- at 19: .aload_n 0
    refine w_upd (fun G1 a1 f1 => ?_)
    have hA := (f1 _ (rl_ne (by omega))).trans hA
    have c2 := (f1 _ (rl_ne (by omega))).trans c2
    have hPo := (f1 _ (rl_ne (by omega))).trans hPo
    refine w_aload_n (pc' := 20) dX0_undo_19 rfl rfl ?_
    refine w_get 4 (pc' := 23) dX0_undo_20 rfl fX0_27_0 a1 rfl ?_
    refine w_aload_n (pc' := 24) dX0_undo_23 rfl rfl ?_
    refine w_get 5 (pc' := 27) dX0_undo_24 rfl fX0_122_0 a1 rfl ?_
    refine w_aald (pc' := 28) dX0_undo_27 rfl hA (by omega) (by omega) ?_
    -- at 28: .getfield 362
    rw [c1]
    refine w_get 0 (pc' := 31) dX0_undo_28 rfl fX0_362_4 c2 rfl ?_
    refine w_aload_n (pc' := 32) dX0_undo_31 rfl rfl ?_
    refine w_get 4 (pc' := 35) dX0_undo_32 rfl fX0_27_0 a1 rfl ?_
    refine w_aload_n (pc' := 36) dX0_undo_35 rfl rfl ?_
    refine w_get 5 (pc' := 39) dX0_undo_36 rfl fX0_122_0 a1 rfl ?_
    refine w_aald (pc' := 40) dX0_undo_39 rfl hA (by omega) (by omega) ?_
    -- at 40: .getfield 366
    rw [c1]
    refine w_get 1 (pc' := 43) dX0_undo_40 rfl fX0_366_4 c2 rfl ?_
    refine w_put 0 (pc' := 46) dX0_undo_43 rfl pX0_140_3 (by decide) hPo (Nat.le_of_ble_eq_true rfl) trivial ?_
    -- at 46: .aload_n 0
    refine w_upd (fun G2 a2 f2 => ?_)
    have a1 := (f2 _ (rl_ne (by omega))).trans a1
    have hA := (f2 _ (rl_ne (by omega))).trans hA
    refine w_aload_n (pc' := 47) dX0_undo_46 rfl rfl ?_
    refine w_get 4 (pc' := 50) dX0_undo_47 rfl fX0_27_0 a1 rfl ?_
    refine w_aload_n (pc' := 51) dX0_undo_50 rfl rfl ?_
    refine w_get 5 (pc' := 54) dX0_undo_51 rfl fX0_122_0 a1 rfl ?_
    refine w_null (pc' := 55) dX0_undo_54 rfl ?_
    -- at 55: .aastore
    refine w_aastN (pc' := 56) dX0_undo_55 rfl hA (by omega) (by omega) (by omega) ?_
    refine w_upd (fun G3 a3 f3 => ?_)
    have a1 := (f3 _ (rl_ne (by omega))).trans a1
    have a2 := (f3 _ (rl_ne (by omega))).trans a2
    refine w_aload_n (pc' := 57) dX0_undo_56 rfl rfl ?_
    refine w_get 5 (pc' := 60) dX0_undo_57 rfl fX0_122_0 a1 rfl ?_
    -- at 60: .ireturn
    refine w_ireturn dX0_undo_60 rfl ?_
    refine h1 (by omega) G3 (fun q hq => ?_) ⟨_, Rx_undo hw (pok_pmo hP) hU (by omega) (fun q q1 q2 q3 => ?_) a1 a3 (fun t t0 t1 => ?_) a2⟩
    · rw [f3 q (fun z => by rw [z] at hq; simp only [] at hq; omega), f2 q (fun z => by rw [z] at hq; simp only [] at hq; omega), f1 q (fun z => by rw [z] at hq; simp only [] at hq; omega)]
    · rw [f3 q q2, f2 q q3, f1 q q1]
    · unfold rset
      rw [if_neg (by omega)]
      exact (hc t t0 (by omega)).1
  · refine w_iconst (pc' := 8) dX0_undo_7 rfl (by decide) ?_
    -- at 8: .ireturn
    refine w_ireturn dX0_undo_8 rfl ?_
    exact h0 (by omega)
theorem c_X0_region_l {p i j N a u m l : Int} {H W : Nat} (hR : rok σ) (hP : pok σ) (p0 : 0 ≤ p) (p1 : p < σ.1 12) (hof : off G u m l (some (33, N, 0))) (hPo : G (pO p) = some (xob 3 [xR (lO a)])) (hpr : prw G a (σ.2 11 p) (rw_ σ p) (fun i => σ.2 6 (rw_ σ p i)) (fun i => σ.2 7 (rw_ σ p i)) (fun i k => σ.2 8 (60 * rw_ σ p i + k))) (hH : 1 ≤ H ∧ H ≤ 20) (hW : 1 ≤ W ∧ W ≤ 20) (hb : blo G N H W (fun _ _ => -1) (fun _ _ => 0) (fun _ _ => 0))
    (h : ∀ (G' : GH) (fk fm fs : Int → Int → Int), bfr N G G' → blo G' N H W fk fm fs → (∀ y x : Int, 0 ≤ y → y < H → 0 ≤ x → x < W → fk y x = ic (hs_ σ p (i + y) (j + x)) (cdat (ca_ σ p (i + y) (j + x)) 0) (-2) ∧ fm y x = ic (hs_ σ p (i + y) (j + x)) (cdat (ca_ σ p (i + y) (j + x)) 1) 0 ∧ fs y x = ic (hs_ σ p (i + y) (j + x)) (cdat (ca_ σ p (i + y) (j + x)) 2) 0) → K (some (xI (sm (fun k => b1 (gc_ σ p i j W k ≠ 0)) (H * W)))) G') : tvW mX0_region (d + 7) K 61 [some (xR oR), some (xI p), some (xI i), some (xI j), some (xI H), some (xI W), some (xR (pO p)), some (xI 0), some (xI 0), none, none] [] G bc bs := by
  have hM := (hP.2 p p0 p1).1
  have hst : ∃ S : Int → Int → (Int → Int → Int) → (Int → Int → Int) → (Int → Int → Int) → Prop, S = fun y x fk fm fs => ∀ y' x' : Int, 0 ≤ y' → y' < H → 0 ≤ x' → x' < W → ((y' < y ∨ y' = y ∧ x' < x) → fk y' x' = ic (hs_ σ p (i + y') (j + x')) (cdat (ca_ σ p (i + y') (j + x')) 0) (-2) ∧ fm y' x' = ic (hs_ σ p (i + y') (j + x')) (cdat (ca_ σ p (i + y') (j + x')) 1) 0 ∧ fs y' x' = ic (hs_ σ p (i + y') (j + x')) (cdat (ca_ σ p (i + y') (j + x')) 2) 0) ∧ (¬ (y' < y ∨ y' = y ∧ x' < x) → fm y' x' = 0 ∧ fs y' x' = 0) := ⟨_, rfl⟩
  obtain ⟨S, hS⟩ := hst
  have hcn : ∃ CN : Int → Int, CN = fun n => sm (fun k => b1 (gc_ σ p i j W k ≠ 0)) n := ⟨_, rfl⟩
  obtain ⟨CN, hCN⟩ := hcn
  have hCr : ∀ n, 0 ≤ n → n ≤ 400 → 0 ≤ CN n ∧ CN n ≤ 400 := by
    intro n n0 n1
    have := sm_r (f := fun k => b1 (gc_ σ p i j W k ≠ 0)) 1 n0 (fun _ _ _ => b1_r _)
    rw [hCN]
    simp only []
    omega
  have hCs : ∀ y x : Int, 0 ≤ y → 0 ≤ x → x < W → CN (y * W + (x + 1)) = CN (y * W + x) + b1 (hs_ σ p (i + y) (j + x) ∧ ca_ σ p (i + y) (j + x) ≠ 0) := by
    intro y x y0 x0 x1
    have hm : 0 ≤ y * (W : Int) := Int.mul_nonneg y0 (by omega)
    rw [hCN]
    simp only []
    rw [← Int.add_assoc, sm_s (by omega)]
    congr 1
    refine b1_c ?_
    unfold gc_
    obtain ⟨e1, e2⟩ := dv_m (y := y) (x := x) (W := (W : Int)) ⟨x0, x1⟩
    rw [e1, e2]
    by_cases q : hs_ σ p (i + y) (j + x)
    · rw [ic_t q]
      exact ⟨fun z => ⟨q, z⟩, fun z => z.2⟩
    · rw [ic_f q]
      exact ⟨fun z => absurd rfl z, fun z => absurd z.1 q⟩
  have hfin : K = K := rfl
  refine up (T := fun y => 0 ≤ y → ∀ v9 v10 : Option XV, ∀ (n : Int) (G1 : GH) (fk fm fs : Int → Int → Int), n = CN (y * W) → bfr N G G1 → blo G1 N H W fk fm fs → S y 0 fk fm fs → tvW mX0_region (d + 7) K 61 [some (xR oR), some (xI p), some (xI i), some (xI j), some (xI H), some (xI W), some (xR (pO p)), some (xI n), some (xI y), v9, v10] [] G1 bc bs) (H : Int) (by omega) ?_ ?_ (by omega) none none 0 G _ _ _ ?_ (fun _ _ => rfl) hb ?_
  · intro _ v9 v10 n G1 fk fm fs en fr1 b1' s
    refine w_iload (pc' := 63) dX0_region_61 rfl rfl ?_
    refine w_iload (pc' := 65) dX0_region_63 rfl rfl ?_
    -- at 65: .if_icmp .ge 192
    refine w_icmp_ge (pc' := 68) (tgt := 257) dX0_region_65 rfl rfl (fun h_ => ?_) (fun h_ => False.elim (by first | omega | (simp (decide := true) only [au_1, nu_2, au_lt, nu_lt, aw_e, nw_e, au_s, au_n, nu_s, nu_n, au_au, nu_nu, au_nu] at h_; omega)))
    refine w_iload (pc' := 259) dX0_region_257 rfl rfl ?_
    -- at 259: .ireturn
    refine w_ireturn dX0_region_259 rfl ?_
    rw [hS] at s
    rw [hCN] at en
    rw [en]
    exact h G1 fk fm fs fr1 b1' (fun y x y0 y1 x0 x1 => (s y x y0 y1 x0 x1).1 (Or.inl y1))
  · intro y y0 y1 ih _ v9 v10 n G1 fk fm fs en fr1 b1' s
    have hyW : 0 ≤ y * (W : Int) := Int.mul_nonneg y0 (by omega)
    have hyW2 : y * (W : Int) ≤ 19 * 20 := Int.mul_le_mul (by omega) (by omega) (by omega) (by omega)
    refine w_iload (pc' := 63) dX0_region_61 rfl rfl ?_
    refine w_iload (pc' := 65) dX0_region_63 rfl rfl ?_
    -- at 65: .if_icmp .ge 192
    refine w_icmp_ge (pc' := 68) (tgt := 257) dX0_region_65 rfl rfl (fun h_ => False.elim (by first | omega | (simp (decide := true) only [au_1, nu_2, au_lt, nu_lt, aw_e, nw_e, au_s, au_n, nu_s, nu_n, au_au, nu_nu, au_nu] at h_; omega))) (fun h_ => ?_)
    refine w_iconst (pc' := 69) dX0_region_68 rfl (by decide) ?_
    refine w_ist9 (pc' := 71) dX0_region_69 rfl rfl ?_
    -- at 71: .iload 9
    refine up (T := fun x => 0 ≤ x → ∀ v10 : Option XV, ∀ (n : Int) (G1 : GH) (fk fm fs : Int → Int → Int), n = CN (y * W + x) → bfr N G G1 → blo G1 N H W fk fm fs → S y x fk fm fs → tvW mX0_region (d + 7) K 71 [some (xR oR), some (xI p), some (xI i), some (xI j), some (xI H), some (xI W), some (xR (pO p)), some (xI n), some (xI y), some (xI x), v10] [] G1 bc bs) (W : Int) (by omega) ?_ ?_ (by omega) v10 n G1 fk fm fs (by rw [Int.add_zero]; exact en) fr1 b1' s
    · intro _ v10 n G1 fk fm fs en fr1 b1' s
      refine w_iload (pc' := 73) dX0_region_71 rfl rfl ?_
      refine w_iload (pc' := 75) dX0_region_73 rfl rfl ?_
      -- at 75: .if_icmp .ge 176
      refine w_icmp_ge (pc' := 78) (tgt := 251) dX0_region_75 rfl rfl (fun h_ => ?_) (fun h_ => False.elim (by first | omega | (simp (decide := true) only [au_1, nu_2, au_lt, nu_lt, aw_e, nw_e, au_s, au_n, nu_s, nu_n, au_au, nu_nu, au_nu] at h_; omega)))
      refine w_inc8 (pc' := 254) dX0_region_251 rfl rfl ⟨by first | omega | (simp (decide := true) only [au_1, nu_2, au_lt, nu_lt, aw_e, nw_e, au_s, au_n, nu_s, nu_n, au_au, nu_nu, au_nu]; omega), by first | omega | (simp (decide := true) only [au_1, nu_2, au_lt, nu_lt, aw_e, nw_e, au_s, au_n, nu_s, nu_n, au_au, nu_nu, au_nu]; omega)⟩ ?_
      refine w_goto (tgt := 61) dX0_region_254 rfl ?_
      -- at 61: .iload 8
      refine ih (by omega) _ _ _ G1 fk fm fs (by rw [en]; congr 1; rw [Int.add_mul]; omega) fr1 b1' ?_
      rw [hS] at s ⊢
      intro y' x' q1 q2 q3 q4
      refine ⟨fun q5 => (s y' x' q1 q2 q3 q4).1 (by omega), fun q5 => (s y' x' q1 q2 q3 q4).2 (by omega)⟩
    · intro x x0 x1 ihx _ v10 n G1 fk fm fs en fr1 b1' s
      have hn := hCr (y * W + x) (by omega) (by omega)
      rw [← en] at hn
      have ihn := hCs y x y0 x0 x1
      rw [← en] at ihn
      have hof1 := (fr1 oR (by simp only []; omega)).trans hof
      have hPo1 := (fr1 (pO p) (by simp only []; omega)).trans hPo
      have hpr1 := prw_fr (G' := G1) (fun q hq => fr1 q (by omega)) hpr
      have b1'' := b1'
      obtain ⟨n1, n2, n3, n4, n5⟩ := b1'
      obtain ⟨⟨ha, ha1, ha2⟩, ⟨hb, hb1, hb2⟩, ⟨hc, hc1, hc2⟩⟩ := n5 y y0 y1
      -- behind the cell: from 245 on
      have nxt : ∀ (z : Int) (G4 : GH) (gk gm gs : Int → Int → Int) (v10 : Option XV), z = CN (y * W + (x + 1)) → bfr N G G4 → blo G4 N H W gk gm gs → S y (x + 1) gk gm gs → tvW mX0_region (d + 7) K 245 [some (xR oR), some (xI p), some (xI i), some (xI j), some (xI H), some (xI W), some (xR (pO p)), some (xI z), some (xI y), some (xI x), v10] [] G4 bc bs := by
        intro z G4 gk gm gs v10 ez fr4 b4 s4
        refine w_inc9 (pc' := 248) dX0_region_245 rfl rfl ⟨by first | omega | (simp (decide := true) only [au_1, nu_2, au_lt, nu_lt, aw_e, nw_e, au_s, au_n, nu_s, nu_n, au_au, nu_nu, au_nu]; omega), by first | omega | (simp (decide := true) only [au_1, nu_2, au_lt, nu_lt, aw_e, nw_e, au_s, au_n, nu_s, nu_n, au_au, nu_nu, au_nu]; omega)⟩ ?_
        refine w_goto (tgt := 71) dX0_region_248 rfl ?_
        -- at 71: .iload 9
        exact ihx (by omega) _ _ G4 gk gm gs ez fr4 b4 s4
      have cell : ∀ o : Option Rl, (hs_ σ p (i + y) (j + x) ∧ o = some (rO (rw_ σ p (i + y))) ∨ ¬ hs_ σ p (i + y) (j + x) ∧ o = none) → tvW mX0_region (d + 7) K 119 [some (xR oR), some (xI p), some (xI i), some (xI j), some (xI H), some (xI W), some (xR (pO p)), some (xI n), some (xI y), some (xI x), v10] [xO o] G1 bc bs := by
        intro o ho
        unfold off at hof1
        rcases ho with ⟨hs, rfl⟩ | ⟨hs, rfl⟩
        · have hs0 := hs
          have hci := ca_ok hR hP ⟨p0, p1⟩ hs
          rw [hs_iff] at hs
          obtain ⟨⟨i0, i1⟩, j0, j1⟩ := hs
          obtain ⟨hr, hL, hO⟩ := hpr1.2 (i + y) i0 i1
          obtain ⟨rn, rk, rm, rs, hrn, ak, am, as, ck, cm, cs⟩ := row_at hr (j := j + x - σ.2 7 (rw_ σ p (i + y))) (by omega) (by simp only []; omega)
          have e0 : ca_ σ p (i + y) (j + x) = σ.2 8 (60 * rw_ σ p (i + y) + (j + x - σ.2 7 (rw_ σ p (i + y)))) := by unfold ca_; rw [Int.add_sub_assoc]
          have hro := hr.1
          simp only [] at hro hL hO ck cm cs hrn
          rw [← e0] at ck cm cs
          refine w_rt ak (fun rgk => ?_)
          refine w_rt am (fun rgm => ?_)
          refine w_rt as (fun rgs => ?_)
          have tk : -128 ≤ rk (j + x - σ.2 7 (rw_ σ p (i + y))) ∧ rk (j + x - σ.2 7 (rw_ σ p (i + y))) ≤ 127 := rgk _
          have tm : -128 ≤ rm (j + x - σ.2 7 (rw_ σ p (i + y))) ∧ rm (j + x - σ.2 7 (rw_ σ p (i + y))) ≤ 127 := rgm _
          have ts : -32768 ≤ rs (j + x - σ.2 7 (rw_ σ p (i + y))) ∧ rs (j + x - σ.2 7 (rw_ σ p (i + y))) ≤ 32767 := rgs _
          rw [ck] at tk
          rw [cm] at tm
          rw [cs] at ts
          refine w_ast10 (pc' := 121) dX0_region_119 rfl rfl ?_
          refine w_aload_n (pc' := 122) dX0_region_121 rfl rfl ?_
          refine w_get 8 (pc' := 125) dX0_region_122 rfl fX0_203_0 hof1 rfl ?_
          refine w_get 0 (pc' := 128) dX0_region_125 rfl fX0_207_6 n1 rfl ?_
          refine w_iload (pc' := 130) dX0_region_128 rfl rfl ?_
          refine w_aaldM (pc' := 131) dX0_region_130 rfl n2 y0 y1 ?_
          refine w_iload (pc' := 133) dX0_region_131 rfl rfl ?_
          refine w_aload (pc' := 135) dX0_region_133 rfl rfl ?_
          -- at 135: .ifnonnull 8
          refine w_ifnonnull (pc' := 138) (tgt := 143) dX0_region_135 rfl rfl (fun h_ => ?_) (fun h_ => False.elim (nomatch h_))
          refine w_aload (pc' := 145) dX0_region_143 rfl rfl ?_
          refine w_get 0 (pc' := 148) dX0_region_145 rfl fX0_187_5 hro rfl ?_
          refine w_iload_n (pc' := 149) dX0_region_148 rfl rfl ?_
          refine w_iload (pc' := 151) dX0_region_149 rfl rfl ?_
          refine w_iadd (pc' := 152) dX0_region_151 rfl ⟨by first | omega | (simp (decide := true) only [au_1, nu_2, au_lt, nu_lt, aw_e, nw_e, au_s, au_n, nu_s, nu_n, au_au, nu_nu, au_nu]; omega), by first | omega | (simp (decide := true) only [au_1, nu_2, au_lt, nu_lt, aw_e, nw_e, au_s, au_n, nu_s, nu_n, au_au, nu_nu, au_nu]; omega)⟩ ?_
          refine w_aload (pc' := 154) dX0_region_152 rfl rfl ?_
          refine w_get 3 (pc' := 157) dX0_region_154 rfl fX0_181_5 hro rfl ?_
          refine w_isub (pc' := 158) dX0_region_157 rfl ⟨by first | omega | (simp (decide := true) only [au_1, nu_2, au_lt, nu_lt, aw_e, nw_e, au_s, au_n, nu_s, nu_n, au_au, nu_nu, au_nu]; omega), by first | omega | (simp (decide := true) only [au_1, nu_2, au_lt, nu_lt, aw_e, nw_e, au_s, au_n, nu_s, nu_n, au_au, nu_nu, au_nu]; omega)⟩ ?_
          refine w_bald (pc' := 159) dX0_region_158 rfl ak (by omega) (by omega) ?_
          -- at 159: .bastore
          rw [ck]
          refine w_bast (pc' := 160) dX0_region_159 rfl ha1 x0 x1 tk ?_
          -- at 160: .aload 10
          refine w_upd (fun G2 a2 f2 => ?_)
          have hof1 := (f2 _ (rl_ne (by omega))).trans hof1
          have n1 := (f2 _ (rl_ne (by omega))).trans n1
          have n3 := (f2 _ (rl_ne (by omega))).trans n3
          have n4 := (f2 _ (rl_ne (by omega))).trans n4
          have n2 := (f2 _ (rl_ne (by omega))).trans n2
          have hb1 := (f2 _ (rl_ne (by omega))).trans hb1
          have hc1 := (f2 _ (rl_ne (by omega))).trans hc1
          have hro := (f2 _ (rl_ne (by omega))).trans hro
          have ak := (f2 _ (rl_ne (by omega))).trans ak
          have am := (f2 _ (rl_ne (by omega))).trans am
          have as := (f2 _ (rl_ne (by omega))).trans as
          have bb2 := blo_k b1'' ha1 a2 f2
          have fr2 := bfr_t fr1 (bfr_s (by omega) f2)
          refine w_aload (pc' := 162) dX0_region_160 rfl rfl ?_
          -- at 162: .ifnull 83
          refine w_ifnull (pc' := 165) (tgt := 245) dX0_region_162 rfl rfl (fun h_ => False.elim (nomatch h_)) (fun h_ => ?_)
          refine w_aload_n (pc' := 166) dX0_region_165 rfl rfl ?_
          refine w_get 8 (pc' := 169) dX0_region_166 rfl fX0_203_0 hof1 rfl ?_
          refine w_get 0 (pc' := 172) dX0_region_169 rfl fX0_207_6 n1 rfl ?_
          refine w_iload (pc' := 174) dX0_region_172 rfl rfl ?_
          refine w_aaldM (pc' := 175) dX0_region_174 rfl n2 y0 y1 ?_
          refine w_iload (pc' := 177) dX0_region_175 rfl rfl ?_
          refine w_bald (pc' := 178) dX0_region_177 rfl a2 x0 x1 ?_
          -- at 178: .ifCond .ge 6
          rw [show iset ha x (cdat (ca_ σ p (i + y) (j + x)) 0) x = cdat (ca_ σ p (i + y) (j + x)) 0 from if_pos rfl]
          refine w_if_ge (pc' := 181) (tgt := 184) dX0_region_178 rfl rfl (fun g => ?_) (fun g => ?_)
          · have hc0 : ca_ σ p (i + y) (j + x) ≠ 0 := fun z => by have := (cd_lt hci).mpr z; omega
            rw [b1_t ⟨hs0, hc0⟩] at ihn
            refine w_aload_n (pc' := 185) dX0_region_184 rfl rfl ?_
            refine w_get 8 (pc' := 188) dX0_region_185 rfl fX0_203_0 hof1 rfl ?_
            refine w_get 1 (pc' := 191) dX0_region_188 rfl fX0_210_6 n1 rfl ?_
            refine w_iload (pc' := 193) dX0_region_191 rfl rfl ?_
            refine w_aaldM (pc' := 194) dX0_region_193 rfl n3 y0 y1 ?_
            refine w_iload (pc' := 196) dX0_region_194 rfl rfl ?_
            refine w_aload (pc' := 198) dX0_region_196 rfl rfl ?_
            refine w_get 1 (pc' := 201) dX0_region_198 rfl fX0_194_5 hro rfl ?_
            refine w_iload_n (pc' := 202) dX0_region_201 rfl rfl ?_
            refine w_iload (pc' := 204) dX0_region_202 rfl rfl ?_
            refine w_iadd (pc' := 205) dX0_region_204 rfl ⟨by first | omega | (simp (decide := true) only [au_1, nu_2, au_lt, nu_lt, aw_e, nw_e, au_s, au_n, nu_s, nu_n, au_au, nu_nu, au_nu]; omega), by first | omega | (simp (decide := true) only [au_1, nu_2, au_lt, nu_lt, aw_e, nw_e, au_s, au_n, nu_s, nu_n, au_au, nu_nu, au_nu]; omega)⟩ ?_
            refine w_aload (pc' := 207) dX0_region_205 rfl rfl ?_
            refine w_get 3 (pc' := 210) dX0_region_207 rfl fX0_181_5 hro rfl ?_
            refine w_isub (pc' := 211) dX0_region_210 rfl ⟨by first | omega | (simp (decide := true) only [au_1, nu_2, au_lt, nu_lt, aw_e, nw_e, au_s, au_n, nu_s, nu_n, au_au, nu_nu, au_nu]; omega), by first | omega | (simp (decide := true) only [au_1, nu_2, au_lt, nu_lt, aw_e, nw_e, au_s, au_n, nu_s, nu_n, au_au, nu_nu, au_nu]; omega)⟩ ?_
            refine w_bald (pc' := 212) dX0_region_211 rfl am (by omega) (by omega) ?_
            -- at 212: .bastore
            rw [cm]
            refine w_bast (pc' := 213) dX0_region_212 rfl hb1 x0 x1 tm ?_
            -- at 213: .aload_n 0
            refine w_upd (fun G3 a3 f3 => ?_)
            have hof1 := (f3 _ (rl_ne (by omega))).trans hof1
            have n1 := (f3 _ (rl_ne (by omega))).trans n1
            have n4 := (f3 _ (rl_ne (by omega))).trans n4
            have hc1 := (f3 _ (rl_ne (by omega))).trans hc1
            have hro := (f3 _ (rl_ne (by omega))).trans hro
            have as := (f3 _ (rl_ne (by omega))).trans as
            have bb3 := blo_m bb2 hb1 a3 f3
            have fr3 := bfr_t fr2 (bfr_s (by omega) f3)
            refine w_aload_n (pc' := 214) dX0_region_213 rfl rfl ?_
            refine w_get 8 (pc' := 217) dX0_region_214 rfl fX0_203_0 hof1 rfl ?_
            refine w_get 2 (pc' := 220) dX0_region_217 rfl fX0_212_6 n1 rfl ?_
            refine w_iload (pc' := 222) dX0_region_220 rfl rfl ?_
            refine w_aaldM (pc' := 223) dX0_region_222 rfl n4 y0 y1 ?_
            refine w_iload (pc' := 225) dX0_region_223 rfl rfl ?_
            refine w_aload (pc' := 227) dX0_region_225 rfl rfl ?_
            refine w_get 2 (pc' := 230) dX0_region_227 rfl fX0_190_5 hro rfl ?_
            refine w_iload_n (pc' := 231) dX0_region_230 rfl rfl ?_
            refine w_iload (pc' := 233) dX0_region_231 rfl rfl ?_
            refine w_iadd (pc' := 234) dX0_region_233 rfl ⟨by first | omega | (simp (decide := true) only [au_1, nu_2, au_lt, nu_lt, aw_e, nw_e, au_s, au_n, nu_s, nu_n, au_au, nu_nu, au_nu]; omega), by first | omega | (simp (decide := true) only [au_1, nu_2, au_lt, nu_lt, aw_e, nw_e, au_s, au_n, nu_s, nu_n, au_au, nu_nu, au_nu]; omega)⟩ ?_
            refine w_aload (pc' := 236) dX0_region_234 rfl rfl ?_
            refine w_get 3 (pc' := 239) dX0_region_236 rfl fX0_181_5 hro rfl ?_
            refine w_isub (pc' := 240) dX0_region_239 rfl ⟨by first | omega | (simp (decide := true) only [au_1, nu_2, au_lt, nu_lt, aw_e, nw_e, au_s, au_n, nu_s, nu_n, au_au, nu_nu, au_nu]; omega), by first | omega | (simp (decide := true) only [au_1, nu_2, au_lt, nu_lt, aw_e, nw_e, au_s, au_n, nu_s, nu_n, au_au, nu_nu, au_nu]; omega)⟩ ?_
            refine w_sald (pc' := 241) dX0_region_240 rfl as (by omega) (by omega) ?_
            -- at 241: .sastore
            rw [cs]
            refine w_sast (pc' := 242) dX0_region_241 rfl hc1 x0 x1 ts ?_
            -- at 242: .iinc 7 1
            refine w_upd (fun G4 a4 f4 => ?_)
            have bb4 := blo_s bb3 hc1 a4 f4
            have fr4 := bfr_t fr3 (bfr_s (by omega) f4)
            refine w_inc7 (pc' := 245) dX0_region_242 rfl rfl ⟨by first | omega | (simp (decide := true) only [au_1, nu_2, au_lt, nu_lt, aw_e, nw_e, au_s, au_n, nu_s, nu_n, au_au, nu_nu, au_nu]; omega), by first | omega | (simp (decide := true) only [au_1, nu_2, au_lt, nu_lt, aw_e, nw_e, au_s, au_n, nu_s, nu_n, au_au, nu_nu, au_nu]; omega)⟩ ?_
            -- at 245: .iinc 9 1
            refine nxt (n + 1) G4 _ _ _ _ ihn.symm fr4 bb4 ?_
            rw [hS] at s ⊢
            intro y' x' q1 q2 q3 q4
            unfold upd2
            by_cases e : y' = y ∧ x' = x
            · rw [if_pos e, if_pos e, if_pos e, e.1, e.2, ic_t hs0, ic_t hs0, ic_t hs0]
              exact ⟨fun _ => ⟨rfl, rfl, rfl⟩, fun z => absurd (by omega) z⟩
            · rw [if_neg e, if_neg e, if_neg e]
              exact ⟨fun z => (s y' x' q1 q2 q3 q4).1 (by omega), fun z => (s y' x' q1 q2 q3 q4).2 (by omega)⟩
          · have hc0 : ca_ σ p (i + y) (j + x) = 0 := (cd_lt hci).mp (by omega)
            rw [b1_f (fun z => z.2 hc0), Int.add_zero] at ihn
            refine w_goto (tgt := 245) dX0_region_181 rfl ?_
            -- at 245: .iinc 9 1
            refine nxt n G2 _ _ _ _ ihn.symm fr2 bb2 ?_
            rw [hS] at s ⊢
            intro y' x' q1 q2 q3 q4
            unfold upd2
            by_cases e : y' = y ∧ x' = x
            · rw [if_pos e, e.1, e.2, ic_t hs0, ic_t hs0, ic_t hs0, hc0]
              have z := (s y x y0 y1 x0 x1).2 (by omega)
              exact ⟨fun _ => ⟨rfl, z.1, z.2⟩, fun z => absurd (by omega) z⟩
            · rw [if_neg e]
              exact ⟨fun z => (s y' x' q1 q2 q3 q4).1 (by omega), fun z => (s y' x' q1 q2 q3 q4).2 (by omega)⟩
        · rw [b1_f (fun z => hs z.1), Int.add_zero] at ihn
          refine w_ast10 (pc' := 121) dX0_region_119 rfl rfl ?_
          refine w_aload_n (pc' := 122) dX0_region_121 rfl rfl ?_
          refine w_get 8 (pc' := 125) dX0_region_122 rfl fX0_203_0 hof1 rfl ?_
          refine w_get 0 (pc' := 128) dX0_region_125 rfl fX0_207_6 n1 rfl ?_
          refine w_iload (pc' := 130) dX0_region_128 rfl rfl ?_
          refine w_aaldM (pc' := 131) dX0_region_130 rfl n2 y0 y1 ?_
          refine w_iload (pc' := 133) dX0_region_131 rfl rfl ?_
          refine w_aload (pc' := 135) dX0_region_133 rfl rfl ?_
          -- at 135: .ifnonnull 8
          refine w_ifnonnull (pc' := 138) (tgt := 143) dX0_region_135 rfl rfl (fun h_ => False.elim (h_ rfl)) (fun h_ => ?_)
          refine w_bipush (pc' := 140) dX0_region_138 rfl (by decide +kernel) (by decide) ?_
          refine w_goto (tgt := 159) dX0_region_140 rfl ?_
          refine w_bast (pc' := 160) dX0_region_159 rfl ha1 x0 x1 ⟨by omega, by omega⟩ ?_
          -- at 160: .aload 10
          refine w_upd (fun G2 a2 f2 => ?_)
          have bb2 := blo_k b1'' ha1 a2 f2
          have fr2 := bfr_t fr1 (bfr_s (by omega) f2)
          refine w_aload (pc' := 162) dX0_region_160 rfl rfl ?_
          -- at 162: .ifnull 83
          refine w_ifnull (pc' := 165) (tgt := 245) dX0_region_162 rfl rfl (fun h_ => ?_) (fun h_ => False.elim (h_ rfl))
          refine nxt n G2 _ _ _ _ ihn.symm fr2 bb2 ?_
          rw [hS] at s ⊢
          intro y' x' q1 q2 q3 q4
          unfold upd2
          by_cases e : y' = y ∧ x' = x
          · rw [if_pos e, e.1, e.2, ic_f hs, ic_f hs, ic_f hs]
            have z := (s y x y0 y1 x0 x1).2 (by omega)
            exact ⟨fun _ => ⟨rfl, z.1, z.2⟩, fun z => absurd (by omega) z⟩
          · rw [if_neg e]
            exact ⟨fun z => (s y' x' q1 q2 q3 q4).1 (by omega), fun z => (s y' x' q1 q2 q3 q4).2 (by omega)⟩
      have out : ¬ ((-20 ≤ i ∧ i ≤ 60) ∧ -120 ≤ j ∧ j ≤ 120) → tvW mX0_region (d + 7) K 102 [some (xR oR), some (xI p), some (xI i), some (xI j), some (xI H), some (xI W), some (xR (pO p)), some (xI n), some (xI y), some (xI x), v10] [] G1 bc bs := by
        intro q
        refine w_null (pc' := 103) dX0_region_102 rfl ?_
        refine w_goto (tgt := 119) dX0_region_103 rfl ?_
        -- at 119: .astore 10
        refine cell none (Or.inr ⟨fun hs => q ?_, rfl⟩)
        rw [hs_iff] at hs
        obtain ⟨⟨i0, i1⟩, j0, j1⟩ := hs
        obtain ⟨-, hL, hO⟩ := hpr1.2 (i + y) i0 i1
        simp only [] at hL hO
        omega
      refine w_iload (pc' := 73) dX0_region_71 rfl rfl ?_
      refine w_iload (pc' := 75) dX0_region_73 rfl rfl ?_
      -- at 75: .if_icmp .ge 176
      refine w_icmp_ge (pc' := 78) (tgt := 251) dX0_region_75 rfl rfl (fun h_ => False.elim (by first | omega | (simp (decide := true) only [au_1, nu_2, au_lt, nu_lt, aw_e, nw_e, au_s, au_n, nu_s, nu_n, au_au, nu_nu, au_nu] at h_; omega))) (fun h_ => ?_)
      refine w_iload_n (pc' := 79) dX0_region_78 rfl rfl ?_
      refine w_bipush (pc' := 81) dX0_region_79 rfl (by decide +kernel) (by decide) ?_
      -- at 81: .if_icmp .gt 21
      refine w_icmp_gt (pc' := 84) (tgt := 102) dX0_region_81 rfl rfl (fun q1 => ?_) (fun q1 => ?_)
      · exact out (by omega)
      · refine w_iload_n (pc' := 85) dX0_region_84 rfl rfl ?_
        refine w_bipush (pc' := 87) dX0_region_85 rfl (by decide +kernel) (by decide) ?_
        -- at 87: .if_icmp .lt 15
        refine w_icmp_lt (pc' := 90) (tgt := 102) dX0_region_87 rfl rfl (fun q2 => ?_) (fun q2 => ?_)
        · exact out (by omega)
        · refine w_iload_n (pc' := 91) dX0_region_90 rfl rfl ?_
          refine w_bipush (pc' := 93) dX0_region_91 rfl (by decide +kernel) (by decide) ?_
          -- at 93: .if_icmp .gt 9
          refine w_icmp_gt (pc' := 96) (tgt := 102) dX0_region_93 rfl rfl (fun q3 => ?_) (fun q3 => ?_)
          · exact out (by omega)
          · refine w_iload_n (pc' := 97) dX0_region_96 rfl rfl ?_
            refine w_bipush (pc' := 99) dX0_region_97 rfl (by decide +kernel) (by decide) ?_
            -- at 99: .if_icmp .ge 7
            refine w_icmp_ge (pc' := 102) (tgt := 106) dX0_region_99 rfl rfl (fun q4 => ?_) (fun q4 => ?_)
            · refine w_aload (pc' := 108) dX0_region_106 rfl rfl ?_
              refine w_iload_n (pc' := 109) dX0_region_108 rfl rfl ?_
              refine w_iload (pc' := 111) dX0_region_109 rfl rfl ?_
              refine w_iadd (pc' := 112) dX0_region_111 rfl ⟨by first | omega | (simp (decide := true) only [au_1, nu_2, au_lt, nu_lt, aw_e, nw_e, au_s, au_n, nu_s, nu_n, au_au, nu_nu, au_nu]; omega), by first | omega | (simp (decide := true) only [au_1, nu_2, au_lt, nu_lt, aw_e, nw_e, au_s, au_n, nu_s, nu_n, au_au, nu_nu, au_nu]; omega)⟩ ?_
              refine w_iload_n (pc' := 113) dX0_region_112 rfl rfl ?_
              refine w_iload (pc' := 115) dX0_region_113 rfl rfl ?_
              refine w_iadd (pc' := 116) dX0_region_115 rfl ⟨by first | omega | (simp (decide := true) only [au_1, nu_2, au_lt, nu_lt, aw_e, nw_e, au_s, au_n, nu_s, nu_n, au_au, nu_nu, au_nu]; omega), by first | omega | (simp (decide := true) only [au_1, nu_2, au_lt, nu_lt, aw_e, nw_e, au_s, au_n, nu_s, nu_n, au_au, nu_nu, au_nu]; omega)⟩ ?_
              -- at 116: .invokevirtual 173
              refine w_callV2 (pc' := 119) (mc := 0) (ms := 0) dX0_region_116 rfl tX4_at q489 rfl rfl q490 q488 hPo1 rfl (Nat.le_of_ble_eq_true rfl) (Nat.le_of_ble_eq_true rfl) ?_
              refine c_X4_at hPo1 hpr1 (fun i0 j0 j1 => w_p1 ?_) (fun g => w_p1 ?_)
              · exact cell _ (Or.inl ⟨hs_iff.mpr ⟨i0, j0, j1⟩, rfl⟩)
              · exact cell none (Or.inr ⟨fun q => g (hs_iff.mp q), rfl⟩)
            · exact out (by omega)
  · rw [hCN, Int.zero_mul]
    rfl
  · rw [hS]
    intro y' x' q1 q2 q3 q4
    exact ⟨fun z => by omega, fun _ => ⟨rfl, rfl⟩⟩
theorem c_X0_region {p i j r c : Int} (hw : Rx σ w G) (hR : rok σ) (hP : pok σ) (hr0 : 0 ≤ σ.1 29) (h1 : regOk σ p r c → ∀ G', tfr G G' → Rel (sReg σ p i j r c) G' → K (some (xI (sm (fun k => b1 (gc_ σ p i j c k ≠ 0)) (r * c)))) G') (h0 : ¬ regOk σ p r c → K (some (xI (-1))) G) : tvW mX0_region (d + 7) K 0 [some (xR oR), some (xI p), some (xI i), some (xI j), some (xI r), some (xI c), none, none, none, none, none] [] G 64 1263 := by
  have hof := hw.1
  unfold off at hof
  unfold regOk at h1 h0
  have bad : ∀ o, ¬ ((0 ≤ p ∧ p < σ.1 12) ∧ (1 ≤ r ∧ r ≤ 20) ∧ (1 ≤ c ∧ c ≤ 20)) → tvW mX0_region (d + 7) K 38 [some (xR oR), some (xI p), some (xI i), some (xI j), some (xI r), some (xI c), some (xO o), none, none, none, none] [] G 64 1263 := by
    intro o q
    refine w_iconst (pc' := 39) dX0_region_38 rfl (by decide) ?_
    -- at 39: .ireturn
    refine w_ireturn dX0_region_39 rfl ?_
    exact h0 q
  refine w_aload_n (pc' := 1) dX0_region_0 rfl rfl ?_
  refine w_iload_n (pc' := 2) dX0_region_1 rfl rfl ?_
  -- at 2: .invokevirtual 150
  refine w_callV1 (pc' := 5) (mc := 0) (ms := 0) dX0_region_2 rfl tX0_pattern_2 q375 rfl rfl qs4 q373 hof rfl (Nat.le_of_ble_eq_true rfl) (Nat.le_of_ble_eq_true rfl) ?_
  refine c_X0_pattern_2 hw (fun p0 p1 => w_p1 ?_) (fun g => w_p1 ?_)
  · have hpr := Rx_prw hw hR hP p0 p1
    obtain ⟨hPo, hPl⟩ := hw.2.2.2.1.2 p p0 p1
    obtain ⟨pl, cl, N, b, rg⟩ := w
    obtain ⟨hx1, hx2, hx3, hx4, hx5, hx6, hx7, hx8, hx9, hx10, hx11⟩ := Rx_un hw
    have hN := hx11.1
    refine w_ast6 (pc' := 7) dX0_region_5 rfl rfl ?_
    refine w_aload (pc' := 9) dX0_region_7 rfl rfl ?_
    -- at 9: .ifnull 29
    refine w_ifnull (pc' := 12) (tgt := 38) dX0_region_9 rfl rfl (fun h_ => False.elim (nomatch h_)) (fun h_ => ?_)
    refine w_iload (pc' := 14) dX0_region_12 rfl rfl ?_
    refine w_iconst (pc' := 15) dX0_region_14 rfl (by decide) ?_
    -- at 15: .if_icmp .lt 23
    refine w_icmp_lt (pc' := 18) (tgt := 38) dX0_region_15 rfl rfl (fun q1 => ?_) (fun q1 => ?_)
    · exact bad _ (by omega)
    · refine w_iload (pc' := 20) dX0_region_18 rfl rfl ?_
      refine w_bipush (pc' := 22) dX0_region_20 rfl (by decide +kernel) (by decide) ?_
      -- at 22: .if_icmp .gt 16
      refine w_icmp_gt (pc' := 25) (tgt := 38) dX0_region_22 rfl rfl (fun q2 => ?_) (fun q2 => ?_)
      · exact bad _ (by omega)
      · refine w_iload (pc' := 27) dX0_region_25 rfl rfl ?_
        refine w_iconst (pc' := 28) dX0_region_27 rfl (by decide) ?_
        -- at 28: .if_icmp .lt 10
        refine w_icmp_lt (pc' := 31) (tgt := 38) dX0_region_28 rfl rfl (fun q3 => ?_) (fun q3 => ?_)
        · exact bad _ (by omega)
        · refine w_iload (pc' := 33) dX0_region_31 rfl rfl ?_
          refine w_bipush (pc' := 35) dX0_region_33 rfl (by decide +kernel) (by decide) ?_
          -- at 35: .if_icmp .le 5
          refine w_icmp_le (pc' := 38) (tgt := 40) dX0_region_35 rfl rfl (fun q4 => ?_) (fun q4 => ?_)
          · obtain ⟨H, rfl⟩ : ∃ H : Nat, r = (H : Int) := ⟨r.toNat, by omega⟩
            obtain ⟨W, rfl⟩ : ∃ W : Nat, c = (W : Int) := ⟨c.toNat, by omega⟩
            have hn : ∀ (t : Nat) (z : Int), 33 ≤ t → t < 38 → G (t, N, z) = none := fun t z t0 t1 => fre_iff.mp hx10 _ (Or.inl ⟨by simp only []; omega, by simp only []; omega, Int.le_refl _⟩)
            have hn33 := hn 33 0 (by omega) (by omega)
            have hHW : H * W ≤ 400 := Nat.mul_le_mul (by omega : H ≤ 20) (by omega : W ≤ 20)
            refine w_aload_n (pc' := 41) dX0_region_40 rfl rfl ?_
            refine w_new (N := 3) (33, N, 0) (pc' := 44) dX0_region_41 rfl nX0_200 (by assumption) (by first | assumption | simp) ?_
            -- at 44: .dup
            refine w_upd (fun G1 a1 f1 => ?_)
            have hof := (f1 _ (rl_ne (by omega))).trans hof
            refine w_dup (pc' := 45) dX0_region_44 rfl rfl ?_
            refine w_iload (pc' := 47) dX0_region_45 rfl rfl ?_
            refine w_iload (pc' := 49) dX0_region_47 rfl rfl ?_
            -- at 49: .invokespecial 202
            refine w_callI2 (pc' := 52) (mc := 63) (ms := 1260) dX0_region_49 rfl tX7_init rfl rfl q552 (Or.inl q551) rfl (Nat.le_of_ble_eq_true rfl) (Nat.le_of_ble_eq_true rfl) ?_
            refine c_X7_init (by omega) (by omega) (by omega) (by omega) a1 (fun i => (f1 _ (rl_ne (by omega))).trans (hn 34 i (by omega) (by omega))) (fun i => (f1 _ (rl_ne (by omega))).trans (hn 35 i (by omega) (by omega))) (fun i => (f1 _ (rl_ne (by omega))).trans (hn 36 i (by omega) (by omega))) (fun i => (f1 _ (rl_ne (by omega))).trans (hn 37 i (by omega) (by omega))) (fun G2 f2 b2 => w_p0 ?_)
            have hof := (f2 oR (by simp only []; omega)).trans hof
            refine w_put 8 (pc' := 55) dX0_region_52 rfl pX0_203_0 (by decide) hof (Nat.le_of_ble_eq_true rfl) trivial ?_
            -- at 55: .iconst 0
            refine w_upd (fun G3 a3 f3 => ?_)
            refine w_iconst (pc' := 56) dX0_region_55 rfl (by decide) ?_
            refine w_ist7 (pc' := 58) dX0_region_56 rfl rfl ?_
            refine w_iconst (pc' := 59) dX0_region_58 rfl (by decide) ?_
            refine w_ist8 (pc' := 61) dX0_region_59 rfl rfl ?_
            -- at 61: .iload 8
            have ch3 : ∀ q : Rl, q ≠ oR → ¬ ((33 ≤ q.1 ∧ q.1 < 38) ∧ q.2.1 = N) → G3 q = G q := fun q z1 z2 => ((f3 q z1).trans (f2 q z2)).trans (f1 q (fun z => z2 (by rw [z]; exact ⟨by simp only []; omega, rfl⟩)))
            have b3 : blo G3 N H W (fun _ _ => -1) (fun _ _ => 0) (fun _ _ => 0) := blo_fr (fun q z1 z2 => f3 q (fun z => by rw [z] at z1; simp only [] at z1; omega)) b2
            refine c_X0_region_l hR hP p0 p1 a3 ((ch3 (pO p) (rl_ne (by omega)) (by simp only []; omega)).trans hPo) (prw_fr (fun q hq => ch3 q (fun z => by rw [z] at hq; simp only [] at hq; omega) (by omega)) hpr) ⟨by omega, by omega⟩ ⟨by omega, by omega⟩ b3 (fun G4 fk fm fs fr4 b4 s4 => ?_)
            have ch4 : ∀ q : Rl, q ≠ oR → ¬ ((33 ≤ q.1 ∧ q.1 < 38) ∧ q.2.1 = N) → G4 q = G q := fun q z1 z2 => (fr4 q z2).trans (ch3 q z1 z2)
            refine h1 ⟨⟨p0, p1⟩, ⟨by omega, by omega⟩, by omega, by omega⟩ G4 (fun q hq => ch4 q (fun z => by rw [z] at hq; simp only [] at hq; omega) (by omega)) ⟨_, Rx_reg hw hr0 (fun k k1 k2 k3 k4 => ?_) (fun k hk => ?_) ch4 ((fr4 oR (by simp only []; omega)).trans a3) (Or.inr ⟨?_, rfl, H, W, fk, fm, fs, rfl, rfl, b4, fun y x y0 y1 x0 x1 => ?_⟩)⟩
            · show (if k = 25 then _ else if k = 24 then _ else _) = _
              rw [if_neg k4, if_neg k3]
              rfl
            · show (if k = 22 then _ else if k = 20 then _ else _) = _
              rw [if_neg (by omega), if_neg (by omega)]
            · show (H : Int) ≠ 0
              omega
            · have hyW : 0 ≤ y * (W : Int) := Int.mul_nonneg y0 (by omega)
              have hyW2 : (y + 1) * (W : Int) ≤ H * W := Int.mul_le_mul (by omega) (by omega) (by omega) (by omega)
              rw [Int.add_mul] at hyW2
              obtain ⟨e1, e2⟩ := dv_m (y := y) (x := x) (W := (W : Int)) ⟨x0, x1⟩
              have e20 : (sReg σ p i j H W).2 20 (y * W + x) = ic (hs_ σ p (i + y) (j + x)) (ca_ σ p (i + y) (j + x)) 0 := by
                show rfill (σ.2 20) 0 (H * W) (gc_ σ p i j W) (y * W + x) = _
                unfold rfill gc_
                rw [if_pos (by omega), e1, e2]
              have e22 : (sReg σ p i j H W).2 22 (y * W + x) = b1 (hs_ σ p (i + y) (j + x)) := by
                show rfill (σ.2 22) 0 (H * W) (gi_ σ p i j W) (y * W + x) = _
                unfold rfill gi_
                rw [if_pos (by omega), e1, e2]
              obtain ⟨z1, z2, z3⟩ := s4 y x y0 y1 x0 x1
              rw [e20, e22, z1, z2, z3]
              by_cases q : hs_ σ p (i + y) (j + x)
              · rw [ic_t q, ic_t q, ic_t q, ic_t q, b1_t q]
                exact ⟨rfl, rfl, rfl⟩
              · rw [ic_f q, ic_f q, ic_f q, ic_f q, b1_f q]
                exact ⟨rfl, rfl, rfl⟩
          · exact bad _ (by omega)
  · refine w_ast6 (pc' := 7) dX0_region_5 rfl rfl ?_
    refine w_aload (pc' := 9) dX0_region_7 rfl rfl ?_
    -- at 9: .ifnull 29
    refine w_ifnull (pc' := 12) (tgt := 38) dX0_region_9 rfl rfl (fun h_ => ?_) (fun h_ => False.elim (h_ rfl))
    exact bad _ (fun q => g q.1)
end
