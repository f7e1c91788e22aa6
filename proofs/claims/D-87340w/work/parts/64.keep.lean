set_option maxRecDepth 10000
/-! what was is kept -/
def ckp (σ : MS) (cl : Int → Int) (N : Int) : Int → Int := fun t => if σ.1 16 < 40 then (if t = σ.1 16 then N else cl t) else (if t = 39 then N else cl (t + 1))
theorem usl_kp {σ : MS} {p t : Int} (hU : uok σ) (t0 : 0 ≤ t) : (σ.1 16 < 40 → t < σ.1 16 → usl (sKeep σ p) t = usl σ t ∧ usl σ t ≠ σ.1 17) ∧ (σ.1 16 < 40 → t = σ.1 16 → usl (sKeep σ p) t = σ.1 17) ∧ (¬ σ.1 16 < 40 → t < 39 → usl (sKeep σ p) t = usl σ (t + 1) ∧ usl σ (t + 1) ≠ σ.1 17) ∧ (¬ σ.1 16 < 40 → t = 39 → usl (sKeep σ p) t = σ.1 17) := by
  obtain ⟨⟨u0, u1⟩, ⟨v0, v1⟩, -⟩ := hU
  have e : usl (sKeep σ p) t = ((σ.1 17 + 1) % 40 - 1 - ((if σ.1 16 < 40 then σ.1 16 + 1 else 40) - 1 - t)) % 40 := rfl
  have e2 : ∀ s, usl σ s = (σ.1 17 - 1 - (σ.1 16 - 1 - s)) % 40 := fun _ => rfl
  rw [e, e2, e2]
  refine ⟨fun h1 h2 => ?_, fun h1 h2 => ?_, fun h1 h2 => ?_, fun h1 h2 => ?_⟩
  · rw [if_pos h1]; omega
  · rw [if_pos h1]; omega
  · rw [if_neg h1]; omega
  · rw [if_neg h1]; omega
theorem Rchg_kp {σ : MS} {cl : Int → Int} {N p : Int} {G G' : GH} {g' : Int → Option Rl} (hU : uok σ) (hM : 0 ≤ σ.2 11 p ∧ σ.2 11 p ≤ 60) (h : Rchg σ G cl) (hcl : ∀ t, 0 ≤ t → t < σ.1 16 → cl t ≠ N)
    (ch : ∀ q : Rl, q ≠ oR → q ≠ (5, 0, 0) → ¬ ((30 ≤ q.1 ∧ q.1 < 33) ∧ q.2.1 = N) → G' q = G q) (hA : G' (5, 0, 0) = some (xra 6 40 g')) (hg : ∀ t, 0 ≤ t → t < (if σ.1 16 < 40 then σ.1 16 + 1 else 40) → g' t = some (cO (ckp σ cl N t)))
    (hC : G' (cO N) = some (xob 4 [xR (pO p), xR (lO N)])) (hL : lst G' N (σ.2 11 p) (fun i => some (rO (rw_ σ p i)))) : Rchg (sKeep σ p) G' (ckp σ cl N) := by
  obtain ⟨g, -, h⟩ := h
  have hU0 := hU
  obtain ⟨⟨u0, u1⟩, ⟨v0, v1⟩, hU⟩ := hU
  have e13 : ∀ s, (sKeep σ p).2 13 s = iset (σ.2 13) (σ.1 17) p s := fun _ => rfl
  have e14 : ∀ s, (sKeep σ p).2 14 s = iset (σ.2 14) (σ.1 17) (σ.2 11 p) s := fun _ => rfl
  have e15 : ∀ s, (sKeep σ p).2 15 s = rfill (σ.2 15) (60 * σ.1 17) (σ.2 11 p) (fun q => σ.2 10 (q - 60 * σ.1 17 + 60 * p)) s := fun _ => rfl
  have new : ∀ t, usl (sKeep σ p) t = σ.1 17 → ckp σ cl N t = N → g' t = some (cO (ckp σ cl N t)) → g' t = some (cO (ckp σ cl N t)) ∧ G' (cO (ckp σ cl N t)) = some (xob 4 [xR (pO ((sKeep σ p).2 13 (usl (sKeep σ p) t))), xR (lO (ckp σ cl N t))]) ∧ lst G' (ckp σ cl N t) ((sKeep σ p).2 14 (usl (sKeep σ p) t)) (fun i => some (rO ((sKeep σ p).2 15 (60 * usl (sKeep σ p) t + i)))) := by
    intro t h1 h2 h3
    refine ⟨h3, ?_⟩
    rw [h1, h2, e13, e14]
    unfold iset
    rw [if_pos rfl, if_pos rfl]
    refine ⟨hC, lst_c (fun i i0 i1 => ?_) hL⟩
    rw [e15]
    unfold rfill
    rw [if_pos (by omega)]
    show some (rO (σ.2 10 (60 * p + i))) = some (rO (σ.2 10 (60 * σ.1 17 + i - 60 * σ.1 17 + 60 * p)))
    rw [show 60 * σ.1 17 + i - 60 * σ.1 17 + 60 * p = 60 * p + i by omega]
  have old : ∀ t s, 0 ≤ s → s < σ.1 16 → usl (sKeep σ p) t = usl σ s → usl σ s ≠ σ.1 17 → ckp σ cl N t = cl s → g' t = some (cO (ckp σ cl N t)) → g' t = some (cO (ckp σ cl N t)) ∧ G' (cO (ckp σ cl N t)) = some (xob 4 [xR (pO ((sKeep σ p).2 13 (usl (sKeep σ p) t))), xR (lO (ckp σ cl N t))]) ∧ lst G' (ckp σ cl N t) ((sKeep σ p).2 14 (usl (sKeep σ p) t)) (fun i => some (rO ((sKeep σ p).2 15 (60 * usl (sKeep σ p) t + i)))) := by
    intro t s s0 s1 h1 h2 h3 h4
    refine ⟨h4, ?_⟩
    have hb := hcl s s0 s1
    obtain ⟨-, o1, o2⟩ := h s s0 s1
    have hr : 0 ≤ σ.2 14 (usl σ s) ∧ σ.2 14 (usl σ s) ≤ 60 := (hU (σ.1 16 - 1 - s) (by omega) (by omega)).2.1
    rw [h1, h3, e13, e14]
    unfold iset
    rw [if_neg h2, if_neg h2]
    refine ⟨(ch _ (rl_ne (by omega)) (rl_ne (by omega)) (by simp only []; omega)).trans o1, lst_c (fun i i0 i1 => ?_) (lst_of_fr (fun q q1 q2 => ch q (fun z => by rw [z] at q1; simp only [] at q1; omega) (fun z => by rw [z] at q1; simp only [] at q1; omega) (by omega)) o2)⟩
    rw [e15]
    unfold rfill
    have hs : 0 ≤ usl σ s ∧ usl σ s < 40 := ⟨Int.emod_nonneg _ (by decide), Int.emod_lt_of_pos _ (by decide)⟩
    rw [if_neg (by omega)]
  refine ⟨g', hA, fun t t0 t1 => ?_⟩
  have t1 : t < (if σ.1 16 < 40 then σ.1 16 + 1 else 40) := t1
  obtain ⟨a1, a2, a3, a4⟩ := usl_kp (p := p) hU0 t0
  have hg := hg t t0 t1
  by_cases c : σ.1 16 < 40
  · rw [if_pos c] at t1
    by_cases e : t = σ.1 16
    · exact new t (a2 c e) (by unfold ckp; rw [if_pos c, if_pos e]) hg
    · exact old t t t0 (by omega) (a1 c (by omega)).1 (a1 c (by omega)).2 (by unfold ckp; rw [if_pos c, if_neg e]) hg
  · rw [if_neg c] at t1
    by_cases e : t = 39
    · exact new t (a4 c e) (by unfold ckp; rw [if_neg c, if_pos e]) hg
    · exact old t (t + 1) (by omega) (by omega) (a3 c (by omega)).1 (a3 c (by omega)).2 (by unfold ckp; rw [if_neg c, if_neg e]) hg
theorem ids_kp {σ : MS} {pl cl : Int → Int} {N b p : Int} (u1 : σ.1 16 ≤ 40) (h : ids σ pl cl N b) : ids (sKeep σ p) pl (ckp σ cl N) (N + 1) b := by
  obtain ⟨i1, i2, i3, i4, i5, i6, i7⟩ := h
  have e : (sKeep σ p).1 16 = if σ.1 16 < 40 then σ.1 16 + 1 else 40 := rfl
  unfold ids
  rw [e]
  by_cases c : σ.1 16 < 40
  · have ec : ckp σ cl N = fun t => if t = σ.1 16 then N else cl t := by funext t; unfold ckp; rw [if_pos c]
    rw [if_pos c, ec]
    refine ⟨by omega, ?_, fun p p0 p1 => ?_, fun t t0 t1 => ?_, i5, fun s t s0 s1 t0 t1 e => ?_, fun p t p0 p1 t0 t1 => ?_⟩
    · show 0 ≤ b ∧ b < N + 1 ∨ b = -1 ∧ σ.1 24 = 0
      omega
    · have := i3 p p0 p1
      omega
    · simp only []
      split
      · omega
      · have := i4 t t0 (by omega)
        omega
    · simp only [] at e
      split at e
      · split at e
        · omega
        · have := i4 t t0 (by omega)
          omega
      · split at e
        · have := i4 s s0 (by omega)
          omega
        · exact i6 s t s0 (by omega) t0 (by omega) e
    · simp only []
      split
      · have := i3 p p0 p1
        omega
      · exact i7 p t p0 p1 t0 (by omega)
  · have ec : ckp σ cl N = fun t => if t = 39 then N else cl (t + 1) := by funext t; unfold ckp; rw [if_neg c]
    rw [if_neg c, ec]
    refine ⟨by omega, ?_, fun p p0 p1 => ?_, fun t t0 t1 => ?_, i5, fun s t s0 s1 t0 t1 e => ?_, fun p t p0 p1 t0 t1 => ?_⟩
    · show 0 ≤ b ∧ b < N + 1 ∨ b = -1 ∧ σ.1 24 = 0
      omega
    · have := i3 p p0 p1
      omega
    · simp only []
      split
      · omega
      · have := i4 (t + 1) (by omega) (by omega)
        omega
    · simp only [] at e
      split at e
      · split at e
        · omega
        · have := i4 (t + 1) (by omega) (by omega)
          omega
      · split at e
        · have := i4 (s + 1) (by omega) (by omega)
          omega
        · have := i6 (s + 1) (t + 1) (by omega) (by omega) (by omega) (by omega) e
          omega
    · simp only []
      split
      · have := i3 p p0 p1
        omega
      · exact i7 p (t + 1) p0 p1 (by omega) (by omega)
theorem Rx_keep {σ : MS} {pl cl : Int → Int} {N b p : Int} {rg : Option Rl} {G G' : GH} {g' : Int → Option Rl} (hw : Rx σ (pl, cl, N, b, rg) G) (hU : uok σ) (hM : 0 ≤ σ.2 11 p ∧ σ.2 11 p ≤ 60)
    (ch : ∀ q : Rl, q ≠ oR → q ≠ (5, 0, 0) → ¬ ((30 ≤ q.1 ∧ q.1 < 33) ∧ q.2.1 = N) → G' q = G q) (hO : off G' (if σ.1 16 < 40 then σ.1 16 + 1 else 40) (σ.1 9) (σ.1 41) rg) (hA : G' (5, 0, 0) = some (xra 6 40 g')) (hg : ∀ t, 0 ≤ t → t < (if σ.1 16 < 40 then σ.1 16 + 1 else 40) → g' t = some (cO (ckp σ cl N t)))
    (hC : G' (cO N) = some (xob 4 [xR (pO p), xR (lO N)])) (hL : lst G' N (σ.2 11 p) (fun i => some (rO (rw_ σ p i)))) : Rx (sKeep σ p) (pl, ckp σ cl N, N + 1, b, rg) G' := by
  obtain ⟨hx1, hx2, hx3, hx4, hx5, hx6, hx7, hx8, hx9, hx10, hx11⟩ := Rx_un hw
  have hx11' := hx11
  obtain ⟨i1, i2, i3, i4, -⟩ := hx11
  have ch2 : ∀ q : Rl, q.1 ≠ 2 → q.1 ≠ 5 → ¬ ((30 ≤ q.1 ∧ q.1 < 33) ∧ q.2.1 = N) → G' q = G q := fun q q1 q2 => ch q (fun z => q1 (by rw [z])) (fun z => q2 (by rw [z]))
  have g5 : Rchg (sKeep σ p) G' (ckp σ cl N) := Rchg_kp hU hM hx5 (fun t t0 t1 => by have := i4 t t0 t1; omega) ch hA hg hC hL
  have g10 : fre (sKeep σ p) (N + 1) G' := fre_ch (σ := σ) (k := σ.1 5) (m := σ.1 9) (p := σ.1 12) (r := σ.1 29) (f := σ.1 40) rfl rfl rfl rfl rfl (Int.le_refl _) (Int.le_refl _) (Int.le_refl _) (Int.le_refl _) (Int.le_refl _) (by omega) (fun q hq => ch2 q (by unfold frq at hq; omega) (by unfold frq at hq; omega) (by unfold frq at hq; omega)) hx10
  have p2 : Rkin σ G' := Rkin_fr2 (fun q hq => ch2 q (by omega) (by omega) (by omega)) hx2
  have p3 : Rrow σ G' := Rrow_fr (fun q hq _ _ => ch2 q (by omega) (by omega) (by omega)) hx3
  have p4 : Rpat σ G' pl := Rpat_fr (fun p _ _ => ch2 _ (by simp only []; omega) (by simp only []; omega) (by simp only []; omega)) (fun q hq _ => ch2 q (by omega) (by omega) (by omega)) (fun p p0 p1 q hq e => ch2 q (by omega) (by omega) (by have z := i3 p p0 p1; omega)) hx4
  have p6 : Rreg σ G' rg b := Rreg_fr (fun q hq _ => ch2 q (by omega) (by omega) (by omega)) hx6
  have p7 : Rrul σ G' := Rrul_fr (fun q hq => ch2 q (by omega) (by omega) (by omega)) hx7
  have p8 : Rflo σ G' := Rflo_fr (fun q hq => ch2 q (by omega) (by omega) (by omega)) hx8
  have p9 : Rscr G' := Rscr_fr (fun q hq => ch2 q (by omega) (by omega) (by omega)) hx9
  exact Rx_mk hO p2 p3 p4 g5 p6 p7 p8 p9 g10 (ids_kp hU.1.2 hx11')
section
variable {d : Nat} {K : Option XV → GH → Prop} {G0 G : GH} {bc bs : Nat} {σ : MS} {w : RW}
theorem c_X0_keep {p : Int} (hw : Rx σ w G) (hR : rok σ) (hP : pok σ) (hU : uok σ) (p0 : 0 ≤ p) (p1 : p < σ.1 12) (h : ∀ G', tfr G G' → Rel (sKeep σ p) G' → K none G') : tvW mX0_keep (d + 6) K 0 [some (xR oR), some (xR (pO p))] [] G 3 65 := by
  obtain ⟨pl, cl, N, b, rg⟩ := w
  obtain ⟨hx1, hx2, hx3, hx4, hx5, hx6, hx7, hx8, hx9, hx10, hx11⟩ := Rx_un hw
  have hof := hx1
  unfold off at hof
  have hN := hx11.1
  have hM := (hP.2 p p0 p1).1
  have hpl := hx11.2.2.1 p p0 p1
  have hcl := hx11.2.2.2.1
  have hU0 := hU
  obtain ⟨⟨u0, u1⟩, -, -⟩ := hU
  obtain ⟨g, hA, hg⟩ := hx5
  obtain ⟨hPo, hPl⟩ := hx4.2 p p0 p1
  have hpr := Rx_prw hw hR hP p0 p1
  have hel : lel G (σ.2 11 p) (fun i => some (rO (rw_ σ p i))) 5 := prw_el hpr
  obtain ⟨n, hn⟩ : ∃ n : Nat, (n : Int) = σ.2 11 p := ⟨(σ.2 11 p).toNat, by omega⟩
  have hfC : G (cO N) = none := fre_iff.mp hx10 _ (by unfold frq; simp only []; omega)
  have hfN : G (lO N) = none := fre_iff.mp hx10 _ (by unfold frq; simp only []; omega)
  have hfA : ∀ j, G (lA N j) = none := fun j => fre_iff.mp hx10 _ (by unfold frq; simp only []; omega)
  have tail : ∀ (c : Int) (g1 : Int → Option Rl) (G1 : GH), 0 ≤ c → c < 40 → c + 1 = (if σ.1 16 < 40 then σ.1 16 + 1 else 40) → (∀ q, q ≠ oR → q ≠ (5, 0, 0) → G1 q = G q) → off G1 c (σ.1 9) (σ.1 41) rg → G1 (5, 0, 0) = some (xra 6 40 g1) → (∀ t, 0 ≤ t → t < c → g1 t = some (cO (ckp σ cl N t))) → ckp σ cl N c = N → tvW mX0_keep (d + 6) K 34 [some (xR oR), some (xR (pO p))] [] G1 3 65 := by
    intro c g1 G1 c0 c1 ec ch1 o1 h5 hg1 hcN
    unfold off at o1
    have k18 := (ch1 (pO p) (rl_ne (by omega)) (rl_ne (by omega))).trans hPo
    have kC := (ch1 (cO N) (rl_ne (by omega)) (rl_ne (by omega))).trans hfC
    have kN := (ch1 (lO N) (rl_ne (by omega)) (rl_ne (by omega))).trans hfN
    have kA : ∀ j, G1 (lA N j) = none := fun j => (ch1 (lA N j) (rl_ne (by omega)) (rl_ne (by omega))).trans (hfA j)
    have kl : lst G1 (pl p) n (fun i => some (rO (rw_ σ p i))) := by
      rw [hn]
      exact lst_of_fr (fun q q1 q2 => ch1 q (fun z => by rw [z] at q1; simp only [] at q1; omega) (fun z => by rw [z] at q1; simp only [] at q1; omega)) hPl
    have kel : lel G1 n (fun i => some (rO (rw_ σ p i))) 5 := by
      intro i i0 i1
      obtain ⟨x, fs, e1, e2, e3⟩ := hel i i0 (by omega)
      cases e1
      exact ⟨_, fs, rfl, e2, (ch1 _ (rl_ne (by omega)) (rl_ne (by omega))).trans e3⟩
    refine w_aload_n (pc' := 35) dX0_keep_34 rfl rfl ?_
    refine w_get 4 (pc' := 38) dX0_keep_35 rfl fX0_27_0 o1 rfl ?_
    refine w_aload_n (pc' := 39) dX0_keep_38 rfl rfl ?_
    refine w_get 5 (pc' := 42) dX0_keep_39 rfl fX0_122_0 o1 rfl ?_
    refine w_new (N := 2) (cO N) (pc' := 45) dX0_keep_42 rfl nX0_25 (by assumption) (by first | assumption | simp) ?_
    -- at 45: .dup
    refine w_upd (fun G2 a2 f2 => ?_)
    have k18 := (f2 _ (rl_ne (by omega))).trans k18
    have kN := (f2 _ (rl_ne (by omega))).trans kN
    have o1 := (f2 _ (rl_ne (by omega))).trans o1
    have h5 := (f2 _ (rl_ne (by omega))).trans h5
    have kA : ∀ j, G2 (lA N j) = none := fun j => (f2 _ (rl_ne (by omega))).trans (kA j)
    have kl : lst G2 (pl p) n (fun i => some (rO (rw_ σ p i))) := lst_of_fr (fun q q1 q2 => f2 q (fun z => by rw [z] at q1; simp only [] at q1; omega)) kl
    have kel : lel G2 n (fun i => some (rO (rw_ σ p i))) 5 := by
      intro i i0 i1
      obtain ⟨x, fs, e1, e2, e3⟩ := kel i i0 i1
      cases e1
      exact ⟨_, fs, rfl, e2, (f2 _ (rl_ne (by omega))).trans e3⟩
    refine w_dup (pc' := 46) dX0_keep_45 rfl rfl ?_
    refine w_aload_n (pc' := 47) dX0_keep_46 rfl rfl ?_
    -- at 47: .invokespecial 132
    refine w_callI1 (pc' := 50) (mc := 2) (ms := 63) dX0_keep_47 rfl tX5_init rfl rfl q388 (Or.inl q387) rfl (Nat.le_of_ble_eq_true rfl) (Nat.le_of_ble_eq_true rfl) ?_
    refine c_X5_init (a := N) (b := pl p) a2 k18 (by decide : (18 : Nat) < 30) kN kA (by omega) kl (by omega) kel (fun i _ _ x hx => by cases hx; exact (by decide : (14 : Nat) < 30)) (fun G3 f3 hC3 l3 => w_p0 ?_)
    have o3 := (f3 oR (rl_ne (by omega)) (by simp only []; omega)).trans o1
    have h53 := (f3 (5, 0, 0) (rl_ne (by omega)) (by simp only []; omega)).trans h5
    refine w_aast (ci := 4) (pc' := 51) dX0_keep_50 rfl h53 hC3 ⟨_, rfl, Or.inl rfl⟩ c0 (by omega) ?_
    refine w_upd (fun G4 a4 f4 => ?_)
    have o3 := (f4 _ (rl_ne (by omega))).trans o3
    have hC3 := (f4 _ (rl_ne (by omega))).trans hC3
    refine w_aload_n (pc' := 52) dX0_keep_51 rfl rfl ?_
    refine w_dup (pc' := 53) dX0_keep_52 rfl rfl ?_
    refine w_get 5 (pc' := 56) dX0_keep_53 rfl fX0_122_0 o3 rfl ?_
    refine w_iconst (pc' := 57) dX0_keep_56 rfl (by decide) ?_
    refine w_iadd (pc' := 58) dX0_keep_57 rfl ⟨by first | omega | (simp (decide := true) only [au_1, nu_2, au_lt, nu_lt, aw_e, nw_e, au_s, au_n, nu_s, nu_n, au_au, nu_nu, au_nu]; omega), by first | omega | (simp (decide := true) only [au_1, nu_2, au_lt, nu_lt, aw_e, nw_e, au_s, au_n, nu_s, nu_n, au_au, nu_nu, au_nu]; omega)⟩ ?_
    refine w_put 5 (pc' := 61) dX0_keep_58 rfl pX0_122_0 (by decide) o3 (Nat.le_of_ble_eq_true rfl) trivial ?_
    -- at 61: .return_
    refine w_upd (fun G5 a5 f5 => ?_)
    have a4 := (f5 _ (rl_ne (by omega))).trans a4
    have hC3 := (f5 _ (rl_ne (by omega))).trans hC3
    refine w_return dX0_keep_61 rfl ?_
    refine h G5 (fun q hq => ?_) ⟨_, Rx_keep hw hU0 (p := p) (G' := G5) hM ?_ ?_ a4 ?_ hC3 ?_⟩
    · rw [f5 q (fun z => by rw [z] at hq; simp only [] at hq; omega), f4 q (fun z => by rw [z] at hq; simp only [] at hq; omega), f3 q (fun z => by rw [z] at hq; simp only [] at hq; omega) (by omega), f2 q (fun z => by rw [z] at hq; simp only [] at hq; omega), ch1 q (fun z => by rw [z] at hq; simp only [] at hq; omega) (fun z => by rw [z] at hq; simp only [] at hq; omega)]
    · intro q q1 q2 q3
      rw [f5 q q1, f4 q q2, f3 q (fun z => q3 (by rw [z]; exact ⟨by simp only []; omega, rfl⟩)) (by omega), f2 q (fun z => q3 (by rw [z]; exact ⟨by simp only []; omega, rfl⟩)), ch1 q q1 q2]
    · rw [← ec]
      exact a5
    · intro t t0 t1
      rw [← ec] at t1
      unfold rset
      split
      · rename_i e
        rw [e, hcN]
      · exact hg1 t t0 (by omega)
    · rw [← hn]
      exact lst_of_fr (fun q q1 q2 => (f5 q (fun z => by rw [z] at q1; simp only [] at q1; omega)).trans (f4 q (fun z => by rw [z] at q1; simp only [] at q1; omega))) l3
  refine w_aload_n (pc' := 1) dX0_keep_0 rfl rfl ?_
  refine w_get 5 (pc' := 4) dX0_keep_1 rfl fX0_122_0 hof rfl ?_
  refine w_bipush (pc' := 6) dX0_keep_4 rfl (by decide +kernel) (by decide) ?_
  -- at 6: .if_icmp .ne 28
  refine w_icmp_ne (pc' := 9) (tgt := 34) dX0_keep_6 rfl rfl (fun g40 => ?_) (fun g40 => ?_)
  · exact tail (σ.1 16) g G u0 (by omega) (by rw [if_pos (by omega)]) (fun _ _ _ => rfl) hx1 hA (fun t t0 t1 => by unfold ckp; rw [if_pos (by omega), if_neg (by omega)]; exact (hg t t0 t1).1) (by unfold ckp; rw [if_pos (by omega), if_pos rfl])
  · refine w_aload_n (pc' := 10) dX0_keep_9 rfl rfl ?_
    refine w_get 4 (pc' := 13) dX0_keep_10 rfl fX0_27_0 hof rfl ?_
    refine w_iconst (pc' := 14) dX0_keep_13 rfl (by decide) ?_
    refine w_aload_n (pc' := 15) dX0_keep_14 rfl rfl ?_
    refine w_get 4 (pc' := 18) dX0_keep_15 rfl fX0_27_0 hof rfl ?_
    refine w_iconst (pc' := 19) dX0_keep_18 rfl (by decide) ?_
    refine w_bipush (pc' := 21) dX0_keep_19 rfl (by decide +kernel) (by decide) ?_
    -- at 21: .invokestatic 126
    refine w_acopyR (n0 := 40) (n1 := 40) (ci := 4) (pc' := 24) dX0_keep_21 rfl q385 hA hA rfl rfl ⟨_, rfl, Or.inl rfl⟩ (by omega) (by omega) (by omega) (by omega) (by omega) ?_ (Nat.le_of_ble_eq_true rfl) ?_
    · intro i i0 i1 x hx
      have z := hg i (by omega) (by omega)
      rw [z.1] at hx
      cases hx
      exact ⟨_, z.2.1⟩
    · refine w_upd (fun G1 a1 f1 => ?_)
      have hof := (f1 _ (rl_ne (by omega))).trans hof
      refine w_aload_n (pc' := 25) dX0_keep_24 rfl rfl ?_
      refine w_dup (pc' := 26) dX0_keep_25 rfl rfl ?_
      refine w_get 5 (pc' := 29) dX0_keep_26 rfl fX0_122_0 hof rfl ?_
      refine w_iconst (pc' := 30) dX0_keep_29 rfl (by decide) ?_
      refine w_isub (pc' := 31) dX0_keep_30 rfl ⟨by first | omega | (simp (decide := true) only [au_1, nu_2, au_lt, nu_lt, aw_e, nw_e, au_s, au_n, nu_s, nu_n, au_au, nu_nu, au_nu]; omega), by first | omega | (simp (decide := true) only [au_1, nu_2, au_lt, nu_lt, aw_e, nw_e, au_s, au_n, nu_s, nu_n, au_au, nu_nu, au_nu]; omega)⟩ ?_
      refine w_put 5 (pc' := 34) dX0_keep_31 rfl pX0_122_0 (by decide) hof (Nat.le_of_ble_eq_true rfl) trivial ?_
      -- at 34: .aload_n 0
      refine w_upd (fun G2 a2 f2 => ?_)
      have a1 := (f2 _ (rl_ne (by omega))).trans a1
      refine tail 39 _ G2 (by omega) (by omega) (by rw [if_neg (by omega)]; rfl) (fun q q1 q2 => (f2 q q1).trans (f1 q q2)) ?_ a1 (fun t t0 t1 => ?_) (by unfold ckp; rw [if_neg (by omega), if_pos rfl])
      · unfold off
        rw [a2, show σ.1 16 - 1 = 39 by omega]
        rfl
      · unfold rcp ckp
        rw [if_pos (by omega), if_neg (by omega), if_neg (by omega), show (1 : Int) + (t - 0) = t + 1 by omega]
        exact (hg (t + 1) (by omega) (by omega)).1
end
