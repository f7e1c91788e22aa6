set_option maxRecDepth 10000
/-- a row of a block's array -/
def bar (G : GH) (t ty : Nat) (b i : Int) (W : Nat) (f : Int → Int) : Prop := ∃ g, G (t, b, i) = some (xar ty W g) ∧ ∀ j : Int, 0 ≤ j → j < W → g j = f j
/-- a block: its number, size, kinds, moves, shades -/
def blo (G : GH) (b : Int) (H W : Nat) (fk fm fs : Int → Int → Int) : Prop := G (33, b, 0) = some (xob 6 [xR (34, b, 0), xR (34, b, 1), xR (34, b, 2)]) ∧ G (34, b, 0) = some (xra 8 H (mrow 35 b H)) ∧ G (34, b, 1) = some (xra 8 H (mrow 36 b H)) ∧ G (34, b, 2) = some (xra 9 H (mrow 37 b H)) ∧ ∀ i : Int, 0 ≤ i → i < H → bar G 35 1 b i W (fk i) ∧ bar G 36 1 b i W (fm i) ∧ bar G 37 2 b i W (fs i)
def bfr (b : Int) (G G' : GH) : Prop := ∀ r : Rl, ¬ ((33 ≤ r.1 ∧ r.1 < 38) ∧ r.2.1 = b) → G' r = G r
theorem bfr_t {b : Int} {G G1 G2 : GH} (h : bfr b G G1) (h' : bfr b G1 G2) : bfr b G G2 := fun r hr => (h' r hr).trans (h r hr)
theorem bfr_s {b : Int} {G G' : GH} {t : Nat} {z : Int} (ht : 33 ≤ t ∧ t < 38) (h : ∀ r, r ≠ ((t, b, z) : Rl) → G' r = G r) : bfr b G G' := fun r hr => h r (fun e => hr (by rw [e]; exact ⟨ht, rfl⟩))
theorem bfr_m {b : Int} {G G' : GH} {t t2 : Nat} {z : Int} (ht : 33 ≤ t ∧ t < 38) (ht2 : 33 ≤ t2 ∧ t2 < 38) (h : ∀ r : Rl, r ≠ ((t, b, z) : Rl) → ¬ (r.1 = t2 ∧ r.2.1 = b) → G' r = G r) : bfr b G G' := fun r hr => h r (fun e => hr (by rw [e]; exact ⟨ht, rfl⟩)) (fun e => hr ⟨by omega, e.2⟩)
theorem bar_e {G G' : GH} {t ty : Nat} {b i : Int} {W : Nat} {f : Int → Int} (h : G' (t, b, i) = G (t, b, i)) (hb : bar G t ty b i W f) : bar G' t ty b i W f := by
  obtain ⟨g, h1, h2⟩ := hb
  exact ⟨g, h.trans h1, h2⟩
theorem blo_fr {G G' : GH} {b : Int} {H W : Nat} {fk fm fs : Int → Int → Int} (hf : ∀ r : Rl, (33 ≤ r.1 ∧ r.1 < 38) → r.2.1 = b → G' r = G r) (h : blo G b H W fk fm fs) : blo G' b H W fk fm fs := by
  obtain ⟨h1, h2, h3, h4, h5⟩ := h
  refine ⟨(hf _ (by simp only []; omega) rfl).trans h1, (hf _ (by simp only []; omega) rfl).trans h2, (hf _ (by simp only []; omega) rfl).trans h3, (hf _ (by simp only []; omega) rfl).trans h4, fun i i0 i1 => ?_⟩
  obtain ⟨x1, x2, x3⟩ := h5 i i0 i1
  exact ⟨bar_e (hf _ (by simp only []; omega) rfl) x1, bar_e (hf _ (by simp only []; omega) rfl) x2, bar_e (hf _ (by simp only []; omega) rfl) x3⟩
theorem mrow_at {t : Nat} {b i : Int} {H : Nat} (h0 : 0 ≤ i) (h1 : i < H) : mrow t b H i = some (t, b, i) := if_pos ⟨h0, h1⟩
section
variable {d : Nat} {K : Option XV → GH → Prop} {G0 G : GH} {bc bs : Nat} {σ : MS}
theorem c_X7_rows {b : Int} {H W : Nat} {fk fm fs : Int → Int → Int} (hb : blo G b H W fk fm fs) (h : K (some (xI H)) G) : tvW mX7_rows d K 0 [some (xR (33, b, 0))] [] G bc bs := by
  obtain ⟨h1, h2, h3, h4, h5⟩ := hb
  refine w_aload_n (pc' := 1) dX7_rows_0 rfl rfl ?_
  refine w_get 0 (pc' := 4) dX7_rows_1 rfl fX7_11_6 h1 rfl ?_
  -- at 4: .arraylength
  refine w_alenR (pc' := 5) dX7_rows_4 rfl h2 ?_
  refine w_ireturn dX7_rows_5 rfl ?_
  exact h
theorem c_X7_columns {b : Int} {H W : Nat} {fk fm fs : Int → Int → Int} (hb : blo G b H W fk fm fs) (hH : 0 < H) (h : K (some (xI W)) G) : tvW mX7_columns d K 0 [some (xR (33, b, 0))] [] G bc bs := by
  obtain ⟨h1, h2, h3, h4, h5⟩ := hb
  obtain ⟨⟨g, hg, -⟩, -⟩ := h5 0 (by omega) (by omega)
  refine w_aload_n (pc' := 1) dX7_columns_0 rfl rfl ?_
  refine w_get 0 (pc' := 4) dX7_columns_1 rfl fX7_11_6 h1 rfl ?_
  refine w_iconst (pc' := 5) dX7_columns_4 rfl (by decide) ?_
  refine w_aald (pc' := 6) dX7_columns_5 rfl h2 (by omega) (by omega) ?_
  -- at 6: .arraylength
  rw [mrow_at (by omega) (by omega)]
  refine w_alen (pc' := 7) dX7_columns_6 rfl hg ?_
  refine w_ireturn dX7_columns_7 rfl ?_
  exact h
theorem c_X7_init {b : Int} {H W mc ms : Nat} (hH : H ≤ 20) (hW : W ≤ 20) (hmc : 3 * (1 + H) ≤ mc) (hms : 3 * (H + H * W) ≤ ms) (hO : G (33, b, 0) = some (xob 6 [xN, xN, xN])) (h34 : ∀ i, G (34, b, i) = none) (h35 : ∀ i, G (35, b, i) = none) (h36 : ∀ i, G (36, b, i) = none) (h37 : ∀ i, G (37, b, i) = none)
    (h : ∀ G', bfr b G G' → blo G' b H W (fun _ _ => -1) (fun _ _ => 0) (fun _ _ => 0) → K none G') : tvW mX7_init (d + 1) K 0 [some (xR (33, b, 0)), some (xI H), some (xI W), none, none, none, none, none] [] G mc ms := by
  generalize hP : H * W = P at hms
  refine w_less (bc' := 0 + (1 + H) + (1 + H) + (1 + H)) (bs' := 0 + (H + H * W) + (H + H * W) + (H + H * W)) (by omega) (by rw [hP]; omega) ?_
  refine w_aload_n (pc' := 1) dX7_init_0 rfl rfl ?_
  -- at 1: .invokespecial 3
  refine w_objI (pc' := 4) dX7_init_1 rfl q554 q110 q111 (Nat.le_of_ble_eq_true rfl) ?_
  refine w_aload_n (pc' := 5) dX7_init_4 rfl rfl ?_
  refine w_iload_n (pc' := 6) dX7_init_5 rfl rfl ?_
  refine w_iload_n (pc' := 7) dX7_init_6 rfl rfl ?_
  -- at 7: .multianewarray 9 2
  refine w_multi (t := 8) (ti := 1) (34, b, 0) 35 b H W (pc' := 11) dX7_init_7 rfl (by omega) rfl (by omega) q555 rfl q556 rfl rfl (by omega) (by omega) (h34 0) (by simp) (by simp) (by simp) h35 ?_
  refine w_updM (by simp) (fun G1 a1 b1 f1 => ?_)
  have hO := (f1 _ (rl_ne (by omega)) (by simp only []; omega)).trans hO
  have h34 : ∀ i, i ≠ 0 → G1 (34, b, i) = none := fun i hi => (f1 _ (rl_ne (by omega)) (by simp only []; omega)).trans (h34 i)
  have h36 : ∀ i, G1 (36, b, i) = none := fun i => (f1 _ (rl_ne (by omega)) (by simp only []; omega)).trans (h36 i)
  have h37 : ∀ i, G1 (37, b, i) = none := fun i => (f1 _ (rl_ne (by omega)) (by simp only []; omega)).trans (h37 i)
  refine w_put 0 (pc' := 14) dX7_init_11 rfl pX7_11_6 (by decide) hO (Nat.le_of_ble_eq_true rfl) trivial ?_
  -- at 14: .aload_n 0
  refine w_upd (fun G2 a2 f2 => ?_)
  have a1 := (f2 _ (rl_ne (by omega))).trans a1
  have b1 : ∀ i : Int, 0 ≤ i → i < H → G2 (35, b, i) = some (xar 1 W (fun _ => 0)) := fun i i0 i1 => (f2 _ (rl_ne (by omega))).trans (b1 i i0 i1)
  have h34 : ∀ i, i ≠ 0 → G2 (34, b, i) = none := fun i hi => (f2 _ (rl_ne (by omega))).trans (h34 i hi)
  have h36 : ∀ i, G2 (36, b, i) = none := fun i => (f2 _ (rl_ne (by omega))).trans (h36 i)
  have h37 : ∀ i, G2 (37, b, i) = none := fun i => (f2 _ (rl_ne (by omega))).trans (h37 i)
  refine w_aload_n (pc' := 15) dX7_init_14 rfl rfl ?_
  refine w_iload_n (pc' := 16) dX7_init_15 rfl rfl ?_
  refine w_iload_n (pc' := 17) dX7_init_16 rfl rfl ?_
  -- at 17: .multianewarray 9 2
  refine w_multi (t := 8) (ti := 1) (34, b, 1) 36 b H W (pc' := 21) dX7_init_17 rfl (by omega) rfl (by omega) q555 rfl q556 rfl rfl (by omega) (by omega) (h34 1 (by omega)) (by simp) (by simp) (by simp) h36 ?_
  refine w_updM (by simp) (fun G3 a3 b3 f3 => ?_)
  have a1 := (f3 _ (rl_ne (by omega)) (by simp only []; omega)).trans a1
  have a2 := (f3 _ (rl_ne (by omega)) (by simp only []; omega)).trans a2
  have b1 : ∀ i : Int, 0 ≤ i → i < H → G3 (35, b, i) = some (xar 1 W (fun _ => 0)) := fun i i0 i1 => (f3 _ (rl_ne (by omega)) (by simp only []; omega)).trans (b1 i i0 i1)
  have h34 : ∀ i, i ≠ 0 → i ≠ 1 → G3 (34, b, i) = none := fun i hi hi1 => (f3 _ (rl_ne (by omega)) (by simp only []; omega)).trans (h34 i hi)
  have h37 : ∀ i, G3 (37, b, i) = none := fun i => (f3 _ (rl_ne (by omega)) (by simp only []; omega)).trans (h37 i)
  refine w_put 1 (pc' := 24) dX7_init_21 rfl pX7_16_6 (by decide) a2 (Nat.le_of_ble_eq_true rfl) trivial ?_
  -- at 24: .aload_n 0
  refine w_upd (fun G4 a4 f4 => ?_)
  have a1 := (f4 _ (rl_ne (by omega))).trans a1
  have a3 := (f4 _ (rl_ne (by omega))).trans a3
  have b1 : ∀ i : Int, 0 ≤ i → i < H → G4 (35, b, i) = some (xar 1 W (fun _ => 0)) := fun i i0 i1 => (f4 _ (rl_ne (by omega))).trans (b1 i i0 i1)
  have b3 : ∀ i : Int, 0 ≤ i → i < H → G4 (36, b, i) = some (xar 1 W (fun _ => 0)) := fun i i0 i1 => (f4 _ (rl_ne (by omega))).trans (b3 i i0 i1)
  have h34 : G4 (34, b, 2) = none := (f4 _ (rl_ne (by omega))).trans (h34 2 (by omega) (by omega))
  have h37 : ∀ i, G4 (37, b, i) = none := fun i => (f4 _ (rl_ne (by omega))).trans (h37 i)
  refine w_aload_n (pc' := 25) dX7_init_24 rfl rfl ?_
  refine w_iload_n (pc' := 26) dX7_init_25 rfl rfl ?_
  refine w_iload_n (pc' := 27) dX7_init_26 rfl rfl ?_
  -- at 27: .multianewarray 19 2
  refine w_multi (t := 9) (ti := 2) (34, b, 2) 37 b H W (pc' := 31) dX7_init_27 rfl (by omega) rfl (by omega) q557 rfl q558 rfl rfl (by omega) (by omega) h34 (by simp) (by simp) (by simp) h37 ?_
  refine w_updM (by simp) (fun G5 a5 b5 f5 => ?_)
  have a1 := (f5 _ (rl_ne (by omega)) (by simp only []; omega)).trans a1
  have a3 := (f5 _ (rl_ne (by omega)) (by simp only []; omega)).trans a3
  have a4 := (f5 _ (rl_ne (by omega)) (by simp only []; omega)).trans a4
  have b1 : ∀ i : Int, 0 ≤ i → i < H → G5 (35, b, i) = some (xar 1 W (fun _ => 0)) := fun i i0 i1 => (f5 _ (rl_ne (by omega)) (by simp only []; omega)).trans (b1 i i0 i1)
  have b3 : ∀ i : Int, 0 ≤ i → i < H → G5 (36, b, i) = some (xar 1 W (fun _ => 0)) := fun i i0 i1 => (f5 _ (rl_ne (by omega)) (by simp only []; omega)).trans (b3 i i0 i1)
  refine w_put 2 (pc' := 34) dX7_init_31 rfl pX7_21_6 (by decide) a4 (Nat.le_of_ble_eq_true rfl) trivial ?_
  -- at 34: .aload_n 0
  refine w_upd (fun G6 a6 f6 => ?_)
  have a1 := (f6 _ (rl_ne (by omega))).trans a1
  have a3 := (f6 _ (rl_ne (by omega))).trans a3
  have a5 := (f6 _ (rl_ne (by omega))).trans a5
  have b1 : ∀ i : Int, 0 ≤ i → i < H → G6 (35, b, i) = some (xar 1 W (fun _ => 0)) := fun i i0 i1 => (f6 _ (rl_ne (by omega))).trans (b1 i i0 i1)
  have b3 : ∀ i : Int, 0 ≤ i → i < H → G6 (36, b, i) = some (xar 1 W (fun _ => 0)) := fun i i0 i1 => (f6 _ (rl_ne (by omega))).trans (b3 i i0 i1)
  have b5 : ∀ i : Int, 0 ≤ i → i < H → G6 (37, b, i) = some (xar 2 W (fun _ => 0)) := fun i i0 i1 => (f6 _ (rl_ne (by omega))).trans (b5 i i0 i1)
  have fr : bfr b G G6 := bfr_t (bfr_m (by omega) (by omega) f1) (bfr_t (bfr_s (by omega) f2) (bfr_t (bfr_m (by omega) (by omega) f3) (bfr_t (bfr_s (by omega) f4) (bfr_t (bfr_m (by omega) (by omega) f5) (bfr_s (by omega) f6)))))
  have hst : ∃ S : Int → GH → Prop, S = fun e G8 => bfr b G G8 ∧ G8 (33, b, 0) = some (xob 6 [xR (34, b, 0), xR (34, b, 1), xR (34, b, 2)]) ∧ G8 (34, b, 0) = some (xra 8 H (mrow 35 b H)) ∧ G8 (34, b, 1) = some (xra 8 H (mrow 36 b H)) ∧ G8 (34, b, 2) = some (xra 9 H (mrow 37 b H)) ∧ ∀ i : Int, 0 ≤ i → i < H → (∃ g, G8 (35, b, i) = some (xar 1 W g) ∧ (i < e → ∀ j : Int, 0 ≤ j → j < W → g j = -1)) ∧ G8 (36, b, i) = some (xar 1 W (fun _ => 0)) ∧ G8 (37, b, i) = some (xar 2 W (fun _ => 0)) := ⟨_, rfl⟩
  obtain ⟨S, hS⟩ := hst
  have s0 : S 0 G6 := by
    rw [hS]
    exact ⟨fr, a6, a1, a3, a5, fun i i0 i1 => ⟨⟨_, b1 i i0 i1, fun q => by omega⟩, b3 i i0 i1, b5 i i0 i1⟩⟩
  refine w_aload_n (pc' := 35) dX7_init_34 rfl rfl ?_
  refine w_get 0 (pc' := 38) dX7_init_35 rfl fX7_11_6 a6 rfl ?_
  refine w_ast3 (pc' := 39) dX7_init_38 rfl rfl ?_
  refine w_aload_n (pc' := 40) dX7_init_39 rfl rfl ?_
  -- at 40: .arraylength
  refine w_alenR (pc' := 41) dX7_init_40 rfl a1 ?_
  refine w_ist4 (pc' := 43) dX7_init_41 rfl rfl ?_
  refine w_iconst (pc' := 44) dX7_init_43 rfl (by decide) ?_
  refine w_ist5 (pc' := 46) dX7_init_44 rfl rfl ?_
  -- at 46: .iload 5
  have loop : ∀ x : Option XV, ∀ y : Option XV, ∀ G8, S 0 G8 → tvW mX7_init (d + 1) K 46 [some (xR (33, b, 0)), some (xI H), some (xI W), some (xR (34, b, 0)), some (xI H), some (xI 0), x, y] [] G8 0 0 := by
    refine up (T := fun e => ∀ x : Option XV, ∀ y : Option XV, ∀ G8, S e G8 → tvW mX7_init (d + 1) K 46 [some (xR (33, b, 0)), some (xI H), some (xI W), some (xR (34, b, 0)), some (xI H), some (xI e), x, y] [] G8 0 0) (H : Int) (by omega) ?_ ?_
    · intro x y G8 s
      rw [hS] at s
      obtain ⟨s1, s2, s3, s4, s5, s6⟩ := s
      refine w_iload (pc' := 48) dX7_init_46 rfl rfl ?_
      refine w_iload (pc' := 50) dX7_init_48 rfl rfl ?_
      -- at 50: .if_icmp .ge 36
      refine w_icmp_ge (pc' := 53) (tgt := 86) dX7_init_50 rfl rfl (fun h_ => ?_) (fun h_ => False.elim (by first | omega | (simp (decide := true) only [au_1, nu_2, au_lt, nu_lt, aw_e, nw_e, au_s, au_n, nu_s, nu_n, au_au, nu_nu, au_nu] at h_; omega)))
      refine w_return dX7_init_86 rfl ?_
      refine h G8 s1 ⟨s2, s3, s4, s5, fun i i0 i1 => ?_⟩
      obtain ⟨⟨g, q1, q2⟩, q3, q4⟩ := s6 i i0 i1
      exact ⟨⟨g, q1, q2 i1⟩, ⟨_, q3, fun _ _ _ => rfl⟩, ⟨_, q4, fun _ _ _ => rfl⟩⟩
    · intro e e1 e2 ih x y G8 s
      have s' := s
      rw [hS] at s'
      obtain ⟨s1, s2, s3, s4, s5, s6⟩ := s'
      refine w_iload (pc' := 48) dX7_init_46 rfl rfl ?_
      refine w_iload (pc' := 50) dX7_init_48 rfl rfl ?_
      -- at 50: .if_icmp .ge 36
      refine w_icmp_ge (pc' := 53) (tgt := 86) dX7_init_50 rfl rfl (fun h_ => False.elim (by first | omega | (simp (decide := true) only [au_1, nu_2, au_lt, nu_lt, aw_e, nw_e, au_s, au_n, nu_s, nu_n, au_au, nu_nu, au_nu] at h_; omega))) (fun h_ => ?_)
      refine w_aload_n (pc' := 54) dX7_init_53 rfl rfl ?_
      refine w_iload (pc' := 56) dX7_init_54 rfl rfl ?_
      refine w_aald (pc' := 57) dX7_init_56 rfl s3 (by omega) (by omega) ?_
      -- at 57: .astore 6
      rw [mrow_at (by omega) (by omega)]
      refine w_ast6 (pc' := 59) dX7_init_57 rfl rfl ?_
      refine w_iconst (pc' := 60) dX7_init_59 rfl (by decide) ?_
      refine w_ist7 (pc' := 62) dX7_init_60 rfl rfl ?_
      -- at 62: .iload 7
      refine up (T := fun j => 0 ≤ j → ∀ (G9 : GH) (g : Int → Int), S e G9 → G9 (35, b, e) = some (xar 1 W g) → (∀ j' : Int, 0 ≤ j' → j' < j → g j' = -1) → tvW mX7_init (d + 1) K 62 [some (xR (33, b, 0)), some (xI H), some (xI W), some (xR (34, b, 0)), some (xI H), some (xI e), some (xR (35, b, e)), some (xI j)] [] G9 0 0) (W : Int) (by omega) ?_ ?_ (by omega) G8 _ s (s6 e e1 e2).1.choose_spec.1 (fun j' j0 j1 => by omega)
      · intro _ G9 g s hg hj
        refine w_iload (pc' := 64) dX7_init_62 rfl rfl ?_
        refine w_iload_n (pc' := 65) dX7_init_64 rfl rfl ?_
        -- at 65: .if_icmp .ge 15
        refine w_icmp_ge (pc' := 68) (tgt := 80) dX7_init_65 rfl rfl (fun h_ => ?_) (fun h_ => False.elim (by first | omega | (simp (decide := true) only [au_1, nu_2, au_lt, nu_lt, aw_e, nw_e, au_s, au_n, nu_s, nu_n, au_au, nu_nu, au_nu] at h_; omega)))
        refine w_inc5 (pc' := 83) dX7_init_80 rfl rfl ⟨by first | omega | (simp (decide := true) only [au_1, nu_2, au_lt, nu_lt, aw_e, nw_e, au_s, au_n, nu_s, nu_n, au_au, nu_nu, au_nu]; omega), by first | omega | (simp (decide := true) only [au_1, nu_2, au_lt, nu_lt, aw_e, nw_e, au_s, au_n, nu_s, nu_n, au_au, nu_nu, au_nu]; omega)⟩ ?_
        refine w_goto (tgt := 46) dX7_init_83 rfl ?_
        -- at 46: .iload 5
        refine ih _ _ G9 ?_
        rw [hS] at s ⊢
        obtain ⟨s1, s2, s3, s4, s5, s6⟩ := s
        refine ⟨s1, s2, s3, s4, s5, fun i i0 i1 => ?_⟩
        obtain ⟨⟨g', q1, q2⟩, q3, q4⟩ := s6 i i0 i1
        refine ⟨⟨g', q1, fun q => ?_⟩, q3, q4⟩
        by_cases z : i = e
        · rw [z, hg] at q1
          cases q1
          exact hj
        · exact q2 (by omega)
      · intro j j1 j2 ihj j0 G9 g s hg hj
        refine w_iload (pc' := 64) dX7_init_62 rfl rfl ?_
        refine w_iload_n (pc' := 65) dX7_init_64 rfl rfl ?_
        -- at 65: .if_icmp .ge 15
        refine w_icmp_ge (pc' := 68) (tgt := 80) dX7_init_65 rfl rfl (fun h_ => False.elim (by first | omega | (simp (decide := true) only [au_1, nu_2, au_lt, nu_lt, aw_e, nw_e, au_s, au_n, nu_s, nu_n, au_au, nu_nu, au_nu] at h_; omega))) (fun h_ => ?_)
        refine w_aload (pc' := 70) dX7_init_68 rfl rfl ?_
        refine w_iload (pc' := 72) dX7_init_70 rfl rfl ?_
        refine w_iconst (pc' := 73) dX7_init_72 rfl (by decide) ?_
        refine w_bast (pc' := 74) dX7_init_73 rfl hg (by omega) (by omega) ⟨by omega, by omega⟩ ?_
        -- at 74: .iinc 7 1
        refine w_upd (fun GA yA gA => ?_)
        refine w_inc7 (pc' := 77) dX7_init_74 rfl rfl ⟨by first | omega | (simp (decide := true) only [au_1, nu_2, au_lt, nu_lt, aw_e, nw_e, au_s, au_n, nu_s, nu_n, au_au, nu_nu, au_nu]; omega), by first | omega | (simp (decide := true) only [au_1, nu_2, au_lt, nu_lt, aw_e, nw_e, au_s, au_n, nu_s, nu_n, au_au, nu_nu, au_nu]; omega)⟩ ?_
        refine w_goto (tgt := 62) dX7_init_77 rfl ?_
        -- at 62: .iload 7
        refine ihj (by omega) GA _ ?_ yA ?_
        · rw [hS] at s ⊢
          obtain ⟨s1, s2, s3, s4, s5, s6⟩ := s
          refine ⟨bfr_t s1 (bfr_s (by omega) gA), (gA _ (rl_ne (by omega))).trans s2, (gA _ (rl_ne (by omega))).trans s3, (gA _ (rl_ne (by omega))).trans s4, (gA _ (rl_ne (by omega))).trans s5, fun i i0 i1 => ?_⟩
          obtain ⟨⟨g', q1, q2⟩, q3, q4⟩ := s6 i i0 i1
          refine ⟨?_, (gA _ (rl_ne (by omega))).trans q3, (gA _ (rl_ne (by omega))).trans q4⟩
          by_cases z : i = e
          · rw [z]
            exact ⟨_, yA, fun q => by omega⟩
          · exact ⟨g', (gA _ (rl_ne (by omega))).trans q1, q2⟩
        · intro j' j'0 j'1
          unfold iset
          split
          · rfl
          · exact hj j' j'0 (by omega)
  exact loop _ _ G6 s0
end
