set_option maxRecDepth 10000
theorem Rx_rgI {σ ρ : MS} {w : RW} {G : GH} (hw : Rx ρ w G) (hg : ρ.2 20 = σ.2 20 ∧ ρ.2 22 = σ.2 22 ∧ ρ.1 24 = σ.1 24 ∧ ρ.1 25 = σ.1 25) (g0 : σ.1 24 ≠ 0) : ∃ (b u m l : Int) (H W : Nat) (fk fm fs : Int → Int → Int), off G u m l (some (33, b, 0)) ∧ (H : Int) = σ.1 24 ∧ (W : Int) = σ.1 25 ∧ blo G b H W fk fm fs ∧ ∀ i j : Int, 0 ≤ i → i < σ.1 24 → 0 ≤ j → j < σ.1 25 → fk i j = (if σ.2 22 (i * σ.1 25 + j) = 0 then -2 else cdat (σ.2 20 (i * σ.1 25 + j)) 0) ∧ fm i j = cdat (σ.2 20 (i * σ.1 25 + j)) 1 ∧ fs i j = cdat (σ.2 20 (i * σ.1 25 + j)) 2 := by
  obtain ⟨pl, cl, N, b, rg⟩ := w
  obtain ⟨hx1, hx2, hx3, hx4, hx5, hx6, -⟩ := Rx_un hw
  obtain ⟨e1, e2, e3, e4⟩ := hg
  rcases hx6 with ⟨z, -⟩ | ⟨z, rfl, H, W, fk, fm, fs, eH, eW, hb, hc⟩
  · rw [e3] at z
    exact absurd z g0
  · rw [e3] at eH
    rw [e4] at eW
    rw [e1, e2] at hc
    refine ⟨b, _, _, _, H, W, fk, fm, fs, hx1, eH, eW, hb, fun i j i0 i1 j0 j1 => ?_⟩
    rw [← eW]
    exact hc i j i0 (by omega) j0 (by omega)
theorem pfl_z {σ : MS} {f : Int → Int} {p i j a r off n : Int} (h : ∀ b, 0 ≤ b → b < n → ¬ cmQ σ p i j a b) : pfl σ f p i j a r off n = f := by
  funext q
  unfold pfl
  rw [ic_f (fun z => h _ z.1.1 z.1.2 z.2)]
theorem sm_z {f : Int → Int} {n : Int} (hf : ∀ i, 0 ≤ i → i < n → 0 ≤ f i) (h : sm f n = 0) : ∀ i, 0 ≤ i → i < n → f i = 0 := by
  have : ∀ m : Nat, (m : Int) ≤ n → smN f m ≤ smN f n.toNat → (0 ≤ smN f m) ∧ (smN f m = 0 → ∀ i, 0 ≤ i → i < (m : Int) → f i = 0) := by
    intro m
    induction m with
    | zero => intro _ _; exact ⟨Int.le_refl _, fun _ i i0 i1 => by omega⟩
    | succ m ih =>
      intro hm hle
      have e : smN f (m + 1) = smN f m + f m := rfl
      have hfm := hf m (by omega) (by omega)
      obtain ⟨a1, a2⟩ := ih (by omega) (by omega)
      refine ⟨by omega, fun z i i0 i1 => ?_⟩
      by_cases q : i = m
      · rw [q]; omega
      · exact a2 (by omega) i i0 (by omega)
  intro i i0 i1
  have hn : ((n.toNat : Nat) : Int) = n := by omega
  exact (this n.toNat (by omega) (Int.le_refl _)).2 h i i0 (by omega)
theorem sm_zz {f : Int → Int} {n : Int} (h : ∀ i, 0 ≤ i → i < n → f i = 0) : sm f n = 0 := by
  have : ∀ m : Nat, (m : Int) ≤ n → smN f m = 0 := by
    intro m
    induction m with
    | zero => intro _; rfl
    | succ m ih =>
      intro hm
      have e : smN f (m + 1) = smN f m + f m := rfl
      rw [e, ih (by omega), h m (by omega) (by omega)]
      rfl
  by_cases q : 0 ≤ n
  · exact this n.toNat (by omega)
  · unfold sm
    rw [show n.toNat = 0 by omega]
    rfl
theorem nPst_0 {σ : MS} {p i j n : Int} (hg : 0 ≤ σ.1 25) : nPst σ p i j n = 0 ↔ sm (fun a => cms σ p i j a) n = 0 := by
  constructor
  · intro h
    have z := sm_z (f := fun a => b1 (0 < cms σ p i j a)) (fun _ _ _ => (b1_r _).1) h
    refine sm_zz (fun a a0 a1 => ?_)
    have y := z a a0 a1
    have := cms_r (σ := σ) (p := p) (i := i) (j := j) (a := a) hg
    by_cases q : 0 < cms σ p i j a
    · rw [b1_t q] at y
      omega
    · omega
  · intro h
    have z := sm_z (f := fun a => cms σ p i j a) (fun a _ _ => (cms_r hg).1) h
    refine sm_zz (fun a a0 a1 => ?_)
    have y := z a a0 a1
    exact b1_f (by omega)
section
variable {d : Nat} {K : Option XV → GH → Prop} {G0 G : GH} {bc bs : Nat} {σ τ : MS} {w : RW}
/-- one cell comes -/
theorem c_X0_paste_c {p i j a x r ofs N S : Int} {υ : MS} (hw : Rx (au υ 8 (pfl σ (υ.2 8) p i j a r ofs x)) w G) (hI : pstI σ (au υ 8 (pfl σ (υ.2 8) p i j a r ofs x))) (hG : gok σ) (g0 : σ.1 24 ≠ 0) (hp : 0 ≤ p ∧ p < σ.1 12) (a0 : 0 ≤ a) (a1 : a < σ.1 24) (x0 : 0 ≤ x) (x1 : x < σ.1 25) (hc : cmQ σ p i j a x) (er : rw_ υ p (i + a) = r) (eo : υ.2 7 r = ofs)
    (kk : ∀ G', tfr G G' → Rx (au υ 8 (pfl σ (υ.2 8) p i j a r ofs (x + 1))) w G' → tvW mX0_paste (d + 7) K 325 [some (xR oR), some (xI p), some (xI i), some (xI j), some (xR (pO p)), some (xI N), some (xI S), some (xI a), some (xR (rO r)), some (xI x)] [] G' bc bs) : tvW mX0_paste (d + 7) K 271 [some (xR oR), some (xI p), some (xI i), some (xI j), some (xR (pO p)), some (xI N), some (xI S), some (xI a), some (xR (rO r)), some (xI x)] [] G bc bs := by
  have hI0 := hI
  obtain ⟨tR, tP, tH, hgg, e5, e12, e11⟩ := hI
  obtain ⟨b, u, m, l, H, W, fk, fm, fs, hof, eH, eW, hb, hcell⟩ := Rx_rgI hw hgg g0
  unfold off at hof
  obtain ⟨c1, c2, c3⟩ := hcell a x a0 a1 x0 x1
  rw [if_neg hc.1] at c1
  have hs2 : hs_ υ p (i + a) (j + x) := (tH p (i + a) (j + x) hp.1 hp.2).mpr hc.2
  obtain ⟨s1, s2, s3, s4⟩ := hs2
  rw [er] at s3 s4
  rw [eo] at s3 s4
  have hrw := (tP.2 p hp.1 (by rw [e12]; exact hp.2)).2 (i + a) s1 s2
  have hrw : 0 ≤ r ∧ r < υ.1 9 := by rw [← er]; exact hrw
  have hrr := tR.2 r hrw.1 hrw.2
  have hrr1 : (0 ≤ υ.2 6 r ∧ υ.2 6 r ≤ 60) ∧ -30 ≤ ofs ∧ ofs ≤ 30 := by
    rw [← eo]
    exact ⟨hrr.1, hrr.2.1⟩
  have row1 : row G r (υ.2 6 r) ofs (fun k => pfl σ (υ.2 8) p i j a r ofs x (60 * r + k)) := by
    have z := hw.2.2.1 r hrw.1 hrw.2
    rw [show (au υ 8 (pfl σ (υ.2 8) p i j a r ofs x)).2 7 r = ofs from eo] at z
    exact z
  have hb0 := hb
  obtain ⟨n1, n2, n3, n4, n5⟩ := hb
  obtain ⟨⟨ga, ga1, ga2⟩, ⟨gb, gb1, gb2⟩, ⟨gc, gc1, gc2⟩⟩ := n5 a a0 (by omega)
  refine w_rt ga1 (fun rk => ?_)
  refine w_rt gb1 (fun rm => ?_)
  refine w_rt gc1 (fun rs => ?_)
  have rk := rk x
  have rm := rm x
  have rs := rs x
  have hd := hG.1
  have y1 := ga2 x x0 (by omega)
  have y2 := gb2 x x0 (by omega)
  have y3 := gc2 x x0 (by omega)
  rw [c1] at y1
  rw [c2] at y2
  rw [c3] at y3
  rw [y1] at rk
  rw [y2] at rm
  rw [y3] at rs
  have hj := (show -100 ≤ j + x ∧ j + x ≤ 100 by omega)
  refine w_aload (pc' := 273) dX0_paste_271 rfl rfl ?_
  refine w_iload_n (pc' := 274) dX0_paste_273 rfl rfl ?_
  refine w_iload (pc' := 276) dX0_paste_274 rfl rfl ?_
  refine w_iadd (pc' := 277) dX0_paste_276 rfl ⟨by first | omega | (simp (decide := true) only [au_1, nu_2, au_lt, nu_lt, aw_e, nw_e, au_s, au_n, nu_s, nu_n, au_au, nu_nu, au_nu]; omega), by first | omega | (simp (decide := true) only [au_1, nu_2, au_lt, nu_lt, aw_e, nw_e, au_s, au_n, nu_s, nu_n, au_au, nu_nu, au_nu]; omega)⟩ ?_
  refine w_aload (pc' := 279) dX0_paste_277 rfl rfl ?_
  refine w_get 3 (pc' := 282) dX0_paste_279 rfl fX0_181_5 row1.1 rfl ?_
  refine w_isub (pc' := 283) dX0_paste_282 rfl ⟨by first | omega | (simp (decide := true) only [au_1, nu_2, au_lt, nu_lt, aw_e, nw_e, au_s, au_n, nu_s, nu_n, au_au, nu_nu, au_nu]; omega), by first | omega | (simp (decide := true) only [au_1, nu_2, au_lt, nu_lt, aw_e, nw_e, au_s, au_n, nu_s, nu_n, au_au, nu_nu, au_nu]; omega)⟩ ?_
  -- at 283: .aload_n 0
  refine w_aload_n (pc' := 284) dX0_paste_283 rfl rfl ?_
  refine w_get 8 (pc' := 287) dX0_paste_284 rfl fX0_203_0 hof rfl ?_
  refine w_get 0 (pc' := 290) dX0_paste_287 rfl fX0_207_6 n1 rfl ?_
  refine w_iload (pc' := 292) dX0_paste_290 rfl rfl ?_
  refine w_aaldM (pc' := 293) dX0_paste_292 rfl n2 a0 (by omega) ?_
  refine w_iload (pc' := 295) dX0_paste_293 rfl rfl ?_
  refine w_bald (pc' := 296) dX0_paste_295 rfl ga1 x0 (by omega) ?_
  -- at 296: .aload_n 0
  rw [y1]
  refine w_aload_n (pc' := 297) dX0_paste_296 rfl rfl ?_
  refine w_get 8 (pc' := 300) dX0_paste_297 rfl fX0_203_0 hof rfl ?_
  refine w_get 1 (pc' := 303) dX0_paste_300 rfl fX0_210_6 n1 rfl ?_
  refine w_iload (pc' := 305) dX0_paste_303 rfl rfl ?_
  refine w_aaldM (pc' := 306) dX0_paste_305 rfl n3 a0 (by omega) ?_
  refine w_iload (pc' := 308) dX0_paste_306 rfl rfl ?_
  refine w_bald (pc' := 309) dX0_paste_308 rfl gb1 x0 (by omega) ?_
  -- at 309: .aload_n 0
  rw [y2]
  refine w_aload_n (pc' := 310) dX0_paste_309 rfl rfl ?_
  refine w_get 8 (pc' := 313) dX0_paste_310 rfl fX0_203_0 hof rfl ?_
  refine w_get 2 (pc' := 316) dX0_paste_313 rfl fX0_212_6 n1 rfl ?_
  refine w_iload (pc' := 318) dX0_paste_316 rfl rfl ?_
  refine w_aaldM (pc' := 319) dX0_paste_318 rfl n4 a0 (by omega) ?_
  refine w_iload (pc' := 321) dX0_paste_319 rfl rfl ?_
  refine w_sald (pc' := 322) dX0_paste_321 rfl gc1 x0 (by omega) ?_
  -- at 322: .invokevirtual 184
  rw [y3]
  refine w_callV4 (pc' := 325) (mc := 0) (ms := 0) dX0_paste_322 rfl tX6_set q521 rfl rfl q522 q520 row1.1 rfl (Nat.le_of_ble_eq_true rfl) (Nat.le_of_ble_eq_true rfl) ?_
  refine c_X6_set (c := σ.2 20 (a * σ.1 25 + x)) row1 ⟨by omega, by omega⟩ rfl rfl rfl rk rm rs (fun G2 f2 r2 => w_p0 ?_)
  obtain ⟨pl, cl, N', b', rg'⟩ := w
  refine kk G2 (fun q hq => f2 q (by omega)) ?_
  have z := Rx_set (p := p) (q := r) (x := j + x - ofs) (c := σ.2 20 (a * σ.1 25 + x)) hw (fun r r0 r1 => (tR.2 r r0 r1).1) hp.1 (by rw [e12]; exact hp.2) hrw.1 hrw.2 (by omega) (show j + x - ofs < υ.2 6 r by omega) f2 (by rw [show (au υ 8 (pfl σ (υ.2 8) p i j a r ofs x)).2 7 r = ofs from eo]; exact r2)
  rw [au_au, show (au υ 8 (pfl σ (υ.2 8) p i j a r ofs x)).2 8 = pfl σ (υ.2 8) p i j a r ofs x from rfl, pfl_y (z := 60 * r + (j + x - ofs)) x0 hc (by omega) rfl] at z
  exact z
theorem c_X0_paste_r {p i j a N S : Int} {mc ms : Nat} {v8 v9 : Option XV} (hw : Rx τ w G) (hI : pstI σ τ) (hG : gok σ) (g0 : σ.1 24 ≠ 0) (hp : 0 ≤ p ∧ p < σ.1 12) (a0 : 0 ≤ a) (a1 : a < σ.1 24) (hmd : 0 < cms σ p i j a → τ.1 9 < 6000) (hi : -20 ≤ i ∧ i ≤ 60) (hj : -120 ≤ j ∧ j ≤ 120)
    (kk : ∀ G' w' v8 v9, tfr G G' → Rx (sPRow σ τ p i j a) w' G' → tvW mX0_paste (d + 7) K 331 [some (xR oR), some (xI p), some (xI i), some (xI j), some (xR (pO p)), some (xI N), some (xI S), some (xI a), v8, v9] [] G' mc ms) : tvW mX0_paste (d + 7) K 199 [some (xR oR), some (xI p), some (xI i), some (xI j), some (xR (pO p)), some (xI N), some (xI S), some (xI a), v8, v9] [] G (mc + 4) (ms + 184) := by
  obtain ⟨hg2, hgc⟩ : (1 ≤ σ.1 24 ∧ σ.1 24 ≤ 20) ∧ (1 ≤ σ.1 25 ∧ σ.1 25 ≤ 20) := by have := hG.1; omega
  unfold sPRow at kk
  have hI0 := hI
  obtain ⟨tR, tP, tH, hgg, e5, e12, e11⟩ := hI
  have hst : ∃ Q : Int → Option Rl → MS → Nat → Nat → Prop, Q = fun x v ρ mc' ms' => (sm (fun b => b1 (cmQ σ p i j a b)) x = 0 ∧ v = none ∧ ρ = τ ∧ mc' = mc + 4 ∧ ms' = ms + 184) ∨ (0 < sm (fun b => b1 (cmQ σ p i j a b)) x ∧ v = some (rO (τ.1 9)) ∧ ρ = au (sOwn τ p (i + a)) 8 (pfl σ ((sOwn τ p (i + a)).2 8) p i j a (τ.1 9) (τ.2 7 (rw_ τ p (i + a))) x) ∧ mc' = mc ∧ ms' = ms) := ⟨_, rfl⟩
  obtain ⟨Q, hQ⟩ := hst
  refine w_null (pc' := 200) dX0_paste_199 rfl ?_
  refine w_ast8 (pc' := 202) dX0_paste_200 rfl rfl ?_
  refine w_iconst (pc' := 203) dX0_paste_202 rfl (by decide) ?_
  refine w_ist9 (pc' := 205) dX0_paste_203 rfl rfl ?_
  -- at 205: .iload 9
  refine up (T := fun x => 0 ≤ x → ∀ (v : Option Rl) (ρ : MS) (mc' ms' : Nat) (G1 : GH) (w1 : RW), tfr G G1 → Q x v ρ mc' ms' → Rx ρ w1 G1 → pstI σ ρ → tvW mX0_paste (d + 7) K 205 [some (xR oR), some (xI p), some (xI i), some (xI j), some (xR (pO p)), some (xI N), some (xI S), some (xI a), some (xO v), some (xI x)] [] G1 mc' ms') (σ.1 25) (by omega) ?_ ?_ (by omega) none τ (mc + 4) (ms + 184) G w (fun _ _ => rfl) (by rw [hQ]; exact Or.inl ⟨sm_0, rfl, rfl, rfl, rfl⟩) hw hI0
  · intro _ v ρ mc' ms' G1 w1 t1 q hw1 hI1
    obtain ⟨b, u, m, l, H, W, fk, fm, fs, hof, eH, eW, hb, -⟩ := Rx_rgI hw1 hI1.2.2.2.1 g0
    unfold off at hof
    refine w_iload (pc' := 207) dX0_paste_205 rfl rfl ?_
    refine w_aload_n (pc' := 208) dX0_paste_207 rfl rfl ?_
    refine w_get 8 (pc' := 211) dX0_paste_208 rfl fX0_203_0 hof rfl ?_
    -- at 211: .invokevirtual 221
    refine w_callV0 (pc' := 214) (mc := 0) (ms := 0) dX0_paste_211 rfl tX7_columns q585 rfl rfl q586 q605 hb.1 rfl (Nat.le_of_ble_eq_true rfl) (Nat.le_of_ble_eq_true rfl) ?_
    refine c_X7_columns hb (by omega) ?_
    refine w_p1 ?_
    rw [eW]
    refine w_icmp_ge (pc' := 217) (tgt := 331) dX0_paste_214 rfl rfl (fun h_ => ?_) (fun h_ => False.elim (by first | omega | (simp (decide := true) only [au_1, nu_2, au_lt, nu_lt, aw_e, nw_e, au_s, au_n, nu_s, nu_n, au_au, nu_nu, au_nu] at h_; omega)))
    rw [hQ] at q
    rcases q with ⟨q1, rfl, rfl, rfl, rfl⟩ | ⟨q1, rfl, rfl, rfl, rfl⟩
    · refine w_less (by omega : mc ≤ mc + 4) (by omega : ms ≤ ms + 184) ?_
      refine kk G1 w1 _ _ t1 ?_
      rw [if_neg (by unfold cms; omega)]
      exact hw1
    · refine kk G1 w1 _ _ t1 ?_
      rw [if_pos (show 0 < cms σ p i j a from q1)]
      exact hw1
  · intro x x0 x1 ih _ v ρ mc' ms' G1 w1 t1 q hw1 hI1
    have hI1' := hI1
    obtain ⟨uR, uP, uH, ugg, u5, u12, u11⟩ := hI1
    obtain ⟨b, u, m, l, H, W, fk, fm, fs, hof, eH, eW, hb, hcell⟩ := Rx_rgI hw1 ugg g0
    unfold off at hof
    obtain ⟨c1, -, -⟩ := hcell a x a0 a1 x0 x1
    have hci := (gIx hG a0 a1 x0 x1).2.2.2
    have hb0 := hb
    obtain ⟨n1, n2, n3, n4, n5⟩ := hb
    obtain ⟨⟨ga, ga1, ga2⟩, -, -⟩ := n5 a a0 (by omega)
    have y1 := ga2 x x0 (by omega)
    rw [c1] at y1
    have p1u : p < ρ.1 12 := by rw [u12]; exact hp.2
    obtain ⟨hPo, -⟩ := hw1.2.2.2.1.2 p hp.1 p1u
    have hpr := Rx_prw hw1 uR uP hp.1 p1u
    have hs1 := sm_s (f := fun b => b1 (cmQ σ p i j a b)) x0
    have hrs := sm_r (f := fun b => b1 (cmQ σ p i j a b)) 1 x0 (fun _ _ _ => b1_r _)
    have skip : ¬ cmQ σ p i j a x → tvW mX0_paste (d + 7) K 325 [some (xR oR), some (xI p), some (xI i), some (xI j), some (xR (pO p)), some (xI N), some (xI S), some (xI a), some (xO v), some (xI x)] [] G1 mc' ms' := by
      intro z
      rw [b1_f z, Int.add_zero] at hs1
      refine w_inc9 (pc' := 328) dX0_paste_325 rfl rfl ⟨by first | omega | (simp (decide := true) only [au_1, nu_2, au_lt, nu_lt, aw_e, nw_e, au_s, au_n, nu_s, nu_n, au_au, nu_nu, au_nu]; omega), by first | omega | (simp (decide := true) only [au_1, nu_2, au_lt, nu_lt, aw_e, nw_e, au_s, au_n, nu_s, nu_n, au_au, nu_nu, au_nu]; omega)⟩ ?_
      refine w_goto (tgt := 205) dX0_paste_328 rfl ?_
      -- at 205: .iload 9
      refine ih (by omega) v ρ mc' ms' G1 w1 t1 ?_ hw1 hI1'
      rw [hQ] at q ⊢
      simp only [] at q ⊢
      rw [hs1, ← pfl_n z]
      exact q
    have take : cmQ σ p i j a x → tvW mX0_paste (d + 7) K 254 [some (xR oR), some (xI p), some (xI i), some (xI j), some (xR (pO p)), some (xI N), some (xI S), some (xI a), some (xO v), some (xI x)] [] G1 mc' ms' := by
      intro z
      rw [b1_t z] at hs1
      have er : rw_ (sOwn τ p (i + a)) p (i + a) = τ.1 9 := by rw [rw_own, if_pos rfl]
      have eo : (sOwn τ p (i + a)).2 7 (τ.1 9) = τ.2 7 (rw_ τ p (i + a)) := iset_s
      have hia : 0 ≤ i + a ∧ i + a < σ.2 11 p := ⟨z.2.1, z.2.2.1⟩
      have hpos : 0 < cms σ p i j a := by
        have h2 : ∀ m : Nat, x + 1 + m ≤ σ.1 25 → 0 < sm (fun b => b1 (cmQ σ p i j a b)) (x + 1 + m) := by
          intro m
          induction m with
          | zero => intro _; rw [show x + 1 + ((0 : Nat) : Int) = x + 1 by omega]; omega
          | succ m ihm =>
            intro hm
            have := ihm (by omega)
            rw [show x + 1 + ((m + 1 : Nat) : Int) = (x + 1 + m) + 1 by omega, sm_s (by omega)]
            have := (b1_r (cmQ σ p i j a (x + 1 + m))).1
            omega
        have := h2 (σ.1 25 - x - 1).toNat (by omega)
        rw [show x + 1 + (((σ.1 25 - x - 1).toNat : Nat) : Int) = σ.1 25 by omega] at this
        exact this
      have hI3 := pstI_own (i := i + a) hI0 hp hia (hmd hpos)
      have hI4 : ∀ n, n ≤ σ.1 25 → pstI σ (au (sOwn τ p (i + a)) 8 (pfl σ ((sOwn τ p (i + a)).2 8) p i j a (τ.1 9) (τ.2 7 (rw_ τ p (i + a))) n)) := by
        intro n hn
        refine pstI_cells hI3 (fun q hq => ?_)
        unfold pfl
        by_cases h5 : (0 ≤ q - 60 * τ.1 9 + τ.2 7 (rw_ τ p (i + a)) - j ∧ q - 60 * τ.1 9 + τ.2 7 (rw_ τ p (i + a)) - j < n) ∧ cmQ σ p i j a (q - 60 * τ.1 9 + τ.2 7 (rw_ τ p (i + a)) - j)
        · rw [ic_t h5]
          exact (gIx hG a0 a1 h5.1.1 (by omega)).2.2.2
        · rw [ic_f h5]
          exact hq
      have nxt : ∀ (G2 : GH) (w2 : RW), tfr G1 G2 → Rx (au (sOwn τ p (i + a)) 8 (pfl σ ((sOwn τ p (i + a)).2 8) p i j a (τ.1 9) (τ.2 7 (rw_ τ p (i + a))) x)) w2 G2 → tvW mX0_paste (d + 7) K 271 [some (xR oR), some (xI p), some (xI i), some (xI j), some (xR (pO p)), some (xI N), some (xI S), some (xI a), some (xR (rO (τ.1 9))), some (xI x)] [] G2 mc ms := by
        intro G2 w2 t2 hw2
        refine c_X0_paste_c hw2 (hI4 x (by omega)) hG g0 hp a0 a1 x0 x1 z er eo (fun G3 t3 hw3 => ?_)
        refine w_inc9 (pc' := 328) dX0_paste_325 rfl rfl ⟨by first | omega | (simp (decide := true) only [au_1, nu_2, au_lt, nu_lt, aw_e, nw_e, au_s, au_n, nu_s, nu_n, au_au, nu_nu, au_nu]; omega), by first | omega | (simp (decide := true) only [au_1, nu_2, au_lt, nu_lt, aw_e, nw_e, au_s, au_n, nu_s, nu_n, au_au, nu_nu, au_nu]; omega)⟩ ?_
        refine w_goto (tgt := 205) dX0_paste_328 rfl ?_
        -- at 205: .iload 9
        refine ih (by omega) _ _ mc ms G3 w2 (fun q hq => ((t3 q hq).trans (t2 q hq)).trans (t1 q hq)) ?_ hw3 (hI4 (x + 1) (by omega))
        rw [hQ]
        exact Or.inr ⟨by omega, rfl, rfl, rfl, rfl⟩
      rw [hQ] at q
      rcases q with ⟨q1, rfl, rfl, rfl, rfl⟩ | ⟨q1, rfl, rfl, rfl, rfl⟩
      · have nz := sm_z (f := fun b => b1 (cmQ σ p i j a b)) (fun _ _ _ => (b1_r _).1) q1
        have hof2 := hw1.1
        unfold Rx off at hof2
        refine w_aload (pc' := 256) dX0_paste_254 rfl rfl ?_
        -- at 256: .ifnonnull 15
        refine w_ifnonnull (pc' := 259) (tgt := 271) dX0_paste_256 rfl rfl (fun h_ => False.elim (h_ rfl)) (fun h_ => ?_)
        refine w_aload_n (pc' := 260) dX0_paste_259 rfl rfl ?_
        refine w_aload (pc' := 262) dX0_paste_260 rfl rfl ?_
        refine w_iload_n (pc' := 263) dX0_paste_262 rfl rfl ?_
        refine w_iload (pc' := 265) dX0_paste_263 rfl rfl ?_
        refine w_iadd (pc' := 266) dX0_paste_265 rfl ⟨by first | omega | (simp (decide := true) only [au_1, nu_2, au_lt, nu_lt, aw_e, nw_e, au_s, au_n, nu_s, nu_n, au_au, nu_nu, au_nu]; omega), by first | omega | (simp (decide := true) only [au_1, nu_2, au_lt, nu_lt, aw_e, nw_e, au_s, au_n, nu_s, nu_n, au_au, nu_nu, au_nu]; omega)⟩ ?_
        -- at 266: .invokevirtual 177
        refine w_callV2 (pc' := 269) (mc := 4) (ms := 184) dX0_paste_266 rfl tX0_own q499 rfl rfl qs9 q497 hof rfl (Nat.le_of_ble_eq_true rfl) (Nat.le_of_ble_eq_true rfl) ?_
        refine c_X0_own hw1 uR uP hp.1 p1u hia.1 (by rw [u11]; exact hia.2) (fun G2 t2 hw2 => w_p1 ?_)
        refine w_ast8 (pc' := 271) dX0_paste_269 rfl rfl ?_
        -- at 271: .aload 8
        refine nxt G2 w1 t2 ?_
        rw [pfl_z (fun b b0 b1' y => ?_), au_id]
        · exact hw2
        · have := nz b b0 b1'
          rw [b1_t y] at this
          omega
      · refine w_aload (pc' := 256) dX0_paste_254 rfl rfl ?_
        -- at 256: .ifnonnull 15
        refine w_ifnonnull (pc' := 259) (tgt := 271) dX0_paste_256 rfl rfl (fun h_ => ?_) (fun h_ => False.elim (nomatch h_))
        exact nxt G1 w1 (fun _ _ => rfl) hw1
    refine w_iload (pc' := 207) dX0_paste_205 rfl rfl ?_
    refine w_aload_n (pc' := 208) dX0_paste_207 rfl rfl ?_
    refine w_get 8 (pc' := 211) dX0_paste_208 rfl fX0_203_0 hof rfl ?_
    -- at 211: .invokevirtual 221
    refine w_callV0 (pc' := 214) (mc := 0) (ms := 0) dX0_paste_211 rfl tX7_columns q585 rfl rfl q586 q605 n1 rfl (Nat.le_of_ble_eq_true rfl) (Nat.le_of_ble_eq_true rfl) ?_
    refine c_X7_columns hb0 (by omega) ?_
    refine w_p1 ?_
    rw [eW]
    refine w_icmp_ge (pc' := 217) (tgt := 331) dX0_paste_214 rfl rfl (fun h_ => False.elim (by first | omega | (simp (decide := true) only [au_1, nu_2, au_lt, nu_lt, aw_e, nw_e, au_s, au_n, nu_s, nu_n, au_au, nu_nu, au_nu] at h_; omega))) (fun h_ => ?_)
    refine w_aload_n (pc' := 218) dX0_paste_217 rfl rfl ?_
    refine w_get 8 (pc' := 221) dX0_paste_218 rfl fX0_203_0 hof rfl ?_
    refine w_get 0 (pc' := 224) dX0_paste_221 rfl fX0_207_6 n1 rfl ?_
    refine w_iload (pc' := 226) dX0_paste_224 rfl rfl ?_
    refine w_aaldM (pc' := 227) dX0_paste_226 rfl n2 a0 (by omega) ?_
    refine w_iload (pc' := 229) dX0_paste_227 rfl rfl ?_
    refine w_bald (pc' := 230) dX0_paste_229 rfl ga1 x0 (by omega) ?_
    -- at 230: .bipush (-2)
    rw [y1]
    refine w_bipush (pc' := 232) dX0_paste_230 rfl (by decide +kernel) (by decide) ?_
    -- at 232: .if_icmp .eq 93
    by_cases gi : σ.2 22 (a * σ.1 25 + x) = 0
    · rw [if_pos gi]
      refine w_icmp_eq (pc' := 235) (tgt := 325) dX0_paste_232 rfl rfl (fun h_ => ?_) (fun h_ => False.elim (by first | omega | (simp (decide := true) only [au_1, nu_2, au_lt, nu_lt, aw_e, nw_e, au_s, au_n, nu_s, nu_n, au_au, nu_nu, au_nu] at h_; omega)))
      exact skip (fun z => z.1 gi)
    · rw [if_neg gi]
      have hcd : cdat (σ.2 20 (a * σ.1 25 + x)) 0 ≠ -2 := by
        by_cases z : σ.2 20 (a * σ.1 25 + x) = 0
        · rw [(cd_0 z).1]
          omega
        · have := isC_k hci z
          rw [(cd_n z).1]
          omega
      refine w_icmp_eq (pc' := 235) (tgt := 325) dX0_paste_232 rfl rfl (fun h_ => False.elim (by first | omega | (simp (decide := true) only [au_1, nu_2, au_lt, nu_lt, aw_e, nw_e, au_s, au_n, nu_s, nu_n, au_au, nu_nu, au_nu] at h_; omega))) (fun h_ => ?_)
      refine w_aload (pc' := 237) dX0_paste_235 rfl rfl ?_
      refine w_iload_n (pc' := 238) dX0_paste_237 rfl rfl ?_
      refine w_iload (pc' := 240) dX0_paste_238 rfl rfl ?_
      refine w_iadd (pc' := 241) dX0_paste_240 rfl ⟨by first | omega | (simp (decide := true) only [au_1, nu_2, au_lt, nu_lt, aw_e, nw_e, au_s, au_n, nu_s, nu_n, au_au, nu_nu, au_nu]; omega), by first | omega | (simp (decide := true) only [au_1, nu_2, au_lt, nu_lt, aw_e, nw_e, au_s, au_n, nu_s, nu_n, au_au, nu_nu, au_nu]; omega)⟩ ?_
      refine w_iload_n (pc' := 242) dX0_paste_241 rfl rfl ?_
      refine w_iload (pc' := 244) dX0_paste_242 rfl rfl ?_
      refine w_iadd (pc' := 245) dX0_paste_244 rfl ⟨by first | omega | (simp (decide := true) only [au_1, nu_2, au_lt, nu_lt, aw_e, nw_e, au_s, au_n, nu_s, nu_n, au_au, nu_nu, au_nu]; omega), by first | omega | (simp (decide := true) only [au_1, nu_2, au_lt, nu_lt, aw_e, nw_e, au_s, au_n, nu_s, nu_n, au_au, nu_nu, au_nu]; omega)⟩ ?_
      -- at 245: .invokevirtual 173
      refine w_callV2 (pc' := 248) (mc := 0) (ms := 0) dX0_paste_245 rfl tX4_at q489 rfl rfl q490 q488 hPo rfl (Nat.le_of_ble_eq_true rfl) (Nat.le_of_ble_eq_true rfl) ?_
      refine c_X4_at hPo hpr (fun i0 j0 j1 => w_p1 ?_) (fun g => w_p1 ?_)
      · have hs : hs_ σ p (i + a) (j + x) := (uH p (i + a) (j + x) hp.1 hp.2).mp (hs_iff.mpr ⟨i0, j0, j1⟩)
        refine w_ifnonnull (pc' := 251) (tgt := 254) dX0_paste_248 rfl rfl (fun h_ => ?_) (fun h_ => False.elim (nomatch h_))
        exact take ⟨gi, hs⟩
      · refine w_ifnonnull (pc' := 251) (tgt := 254) dX0_paste_248 rfl rfl (fun h_ => False.elim (h_ rfl)) (fun h_ => ?_)
        refine w_goto (tgt := 325) dX0_paste_251 rfl ?_
        -- at 325: .iinc 9 1
        exact skip (fun z => g (hs_iff.mp ((uH p (i + a) (j + x) hp.1 hp.2).mpr z.2)))
end
