set_option maxRecDepth 10000
/-- how many blocks of a rule are not there -/
noncomputable def phi (G : GH) (r : Int) : Int := sm (fun k => b1 (¬ hasB G r k)) 40
theorem phi_r {G : GH} {r : Int} : 0 ≤ phi G r ∧ phi G r ≤ 40 := by
  have := sm_r (f := fun k => b1 (¬ hasB G r k)) (n := 40) 1 (by omega) (fun _ _ _ => b1_r _)
  unfold phi
  omega
theorem phi_s {G G' : GH} {r k : Int} (k0 : 0 ≤ k) (k1 : k < 40) (hf : ∀ q : Rl, q.1 = 33 → q.2.1 ≠ bid r k → G' q = G q) (hh : hasB G' r k) : (hasB G r k → phi G' r = phi G r) ∧ (¬ hasB G r k → phi G' r + 1 = phi G r) := by
  have e : ∀ i, i ≠ k → b1 (¬ hasB G' r i) = b1 (¬ hasB G r i) := by
    intro i hi
    refine b1_c ?_
    unfold hasB
    rw [hf (33, bid r i, 0) rfl (by show -1 - (40 * r + i) ≠ -1 - (40 * r + k); omega)]
  have z := sm_one (f := fun k => b1 (¬ hasB G r k)) (g := fun k => b1 (¬ hasB G' r k)) k0 k1 e
  have z2 : b1 (¬ hasB G' r k) = 0 := b1_f (fun q => q hh)
  rw [z2] at z
  unfold phi
  refine ⟨fun q => ?_, fun q => ?_⟩
  · have z3 : b1 (¬ hasB G r k) = 0 := b1_f (fun y => y q)
    omega
  · have z3 : b1 (¬ hasB G r k) = 1 := b1_t q
    omega
theorem phi_c {G G' : GH} {r : Int} (hf : ∀ q : Rl, q.1 = 33 → -(40 * r + 40) ≤ q.2.1 → q.2.1 ≤ -1 - 40 * r → G' q = G q) : phi G' r = phi G r := by
  unfold phi
  refine sm_c (fun k k0 k1 => b1_c ?_)
  unfold hasB
  rw [hf (33, bid r k, 0) rfl (by show -(40 * r + 40) ≤ -1 - (40 * r + k); omega) (by show -1 - (40 * r + k) ≤ -1 - 40 * r; omega)]
section
variable {d : Nat} {K : Option XV → GH → Prop} {G : GH} {bc bs : Nat} {σ : MS}
/-- what lay changes -/
def lyf (q r k : Int) (G G' : GH) : Prop := ∀ z : Rl, ¬ ((14 ≤ z.1 ∧ z.1 < 18) ∧ z.2.1 = q) → z ≠ uA r → ¬ ((33 ≤ z.1 ∧ z.1 < 38) ∧ z.2.1 = bid r k) → G' z = G z
theorem c_X0_lay_m {q q0 x y fr r len ofs len0 ofs0 c : Int} {H W : Nat} {C0 Cs : Int → Int} {fk fm fs : Int → Int → Int} {G1 : GH} {u m l : Int} {rg : Option Rl} (hs : row G q len ofs Cs) (h0 : row G q0 len0 ofs0 C0) (hne : q ≠ q0) (hx : 0 ≤ x ∧ x < len0) (ec : C0 x = c) (hc : isC (σ.1 5) c) (nc : c ≠ 0) (hr : 0 ≤ r ∧ r < σ.1 29) (eH : (H : Int) = σ.2 26 r) (eW : (W : Int) = σ.2 27 r) (hK : kok σ) (hQ : qok σ) (hkin : Rkin σ G) (hof : off G u m l rg) (hy : 0 ≤ y ∧ y < H) (hev : mOf c % 2 = 0 ∨ H = W) (hf : 0 ≤ fr ∧ fr + W ≤ len) (hlen : len ≤ 60)
    (f1 : ufr r (kOf c) G G1) (u1 : rul G1 r H W (uB σ r)) (hb : blo G1 (bid r (kOf c)) H W fk fm fs) (hB : ∀ i j : Int, 0 ≤ i → i < H → 0 ≤ j → j < W → fk i j = cdat (uB σ r (kOf c) i j) 0 ∧ fm i j = cdat (uB σ r (kOf c) i j) 1)
    (h : ∀ G', lyf q r (kOf c) G G' → hasB G' r (kOf c) → rul G' r H W (uB σ r) → row G' q len ofs (fun t => if fr ≤ t ∧ t < fr + W then blk σ r c y (t - fr) else Cs t) → K none G') : tvW mX0_lay (d + 4) K 22 [some (xR oR), some (xR (rO q)), some (xI fr), some (xR (uO r)), some (xR (rO q0)), some (xI x), some (xI y), some (xI (mOf c)), none, none, none, none, none] [xR (33, bid r (kOf c), 0)] G1 bc bs := by
  have f1' : ∀ z : Rl, z.1 ≠ 21 → ¬ ((33 ≤ z.1 ∧ z.1 < 38) ∧ z.2.1 = bid r (kOf c)) → G1 z = G z := fun z z1 z2 => f1 z (fun y => z1 (by rw [y])) z2
  refine w_ast8 (pc' := 24) dX0_lay_22 rfl rfl ?_
  refine w_iconst (pc' := 25) dX0_lay_24 rfl (by decide) ?_
  refine w_ist9 (pc' := 27) dX0_lay_25 rfl rfl ?_
  -- at 27: .iload 9
  refine c_X0_lay_l (row_e (fun t t0 t1 => f1' _ (by simp only []; omega) (by simp only []; omega)) hs) (row_e (fun t t0 t1 => f1' _ (by simp only []; omega) (by simp only []; omega)) h0) hne hx ec hc nc hr eH eW u1.1 hb hB hK hQ (Rkin_fr2 (fun z hz => f1' z (by omega) (by omega)) hkin) ((f1' oR (by simp only []; omega) (by simp only []; omega)).trans hof) hy hev hf hlen (fun G2 f2 r2 => h G2 (fun z z1 z2 z3 => (f2 z z1).trans (f1 z z2 z3)) ⟨_, (f2 _ (by simp only []; omega)).trans hb.1⟩ (rul_fr (f2 _ (by simp only []; omega)) (f2 _ (by simp only []; omega)) (fun k k0 k1 z z1 z2 => f2 z (by omega)) u1) r2)
theorem c_X0_lay {q q0 x y fr r len ofs len0 ofs0 c : Int} {H W : Nat} {C0 Cs : Int → Int} {u m l : Int} {rg : Option Rl} (hs : row G q len ofs Cs) (h0 : row G q0 len0 ofs0 C0) (hne : q ≠ q0) (hx : 0 ≤ x ∧ x < len0) (ec : C0 x = c) (hc : isC (σ.1 5) c) (nc : c ≠ 0) (hr : 0 ≤ r ∧ r < σ.1 29) (eH : (H : Int) = σ.2 26 r) (eW : (W : Int) = σ.2 27 r) (hU : rul G r H W (uB σ r)) (hK : kok σ) (hQ : qok σ) (hkin : Rkin σ G) (hof : off G u m l rg) (hy : 0 ≤ y ∧ y < H) (hev : mOf c % 2 = 0 ∨ H = W) (hf : 0 ≤ fr ∧ fr + W ≤ len) (hlen : len ≤ 60) (hroom : hasB G r (kOf c) ∨ bc = 16 ∧ bs = 63)
    (h : ∀ G', lyf q r (kOf c) G G' → hasB G' r (kOf c) → rul G' r H W (uB σ r) → row G' q len ofs (fun t => if fr ≤ t ∧ t < fr + W then blk σ r c y (t - fr) else Cs t) → K none G') : tvW mX0_lay (d + 4) K 0 [some (xR oR), some (xR (rO q)), some (xI fr), some (xR (uO r)), some (xR (rO q0)), some (xI x), some (xI y), none, none, none, none, none, none] [] G bc bs := by
  have hq := hQ.2 r hr.1 hr.2
  have hkc := isC_k hc nc
  have hk1 := hK.1
  obtain ⟨rn, rk, rm, rs, hrn, ak, am, as, ck, cm, cs⟩ := row_at h0 hx.1 hx.2
  rw [ec, (cd_n nc).1] at ck
  rw [ec, (cd_n nc).2.1] at cm
  refine w_aload (pc' := 2) dX0_lay_0 rfl rfl ?_
  refine w_get 1 (pc' := 5) dX0_lay_2 rfl fX0_194_5 h0.1 rfl ?_
  refine w_iload (pc' := 7) dX0_lay_5 rfl rfl ?_
  refine w_bald (pc' := 8) dX0_lay_7 rfl am hx.1 (by omega) ?_
  -- at 8: .istore 7
  rw [cm]
  refine w_ist7 (pc' := 10) dX0_lay_8 rfl rfl ?_
  refine w_aload_n (pc' := 11) dX0_lay_10 rfl rfl ?_
  refine w_aload (pc' := 13) dX0_lay_11 rfl rfl ?_
  refine w_get 0 (pc' := 16) dX0_lay_13 rfl fX0_187_5 h0.1 rfl ?_
  refine w_iload (pc' := 18) dX0_lay_16 rfl rfl ?_
  refine w_bald (pc' := 19) dX0_lay_18 rfl ak hx.1 (by omega) ?_
  -- at 19: .invokevirtual 233
  rw [ck]
  rcases hroom with hh | ⟨rfl, rfl⟩
  · refine w_callV1 (pc' := 22) (mc := 0) (ms := 0) dX0_lay_19 rfl tX8_block q639 rfl rfl q640 q638 hU.1 rfl (Nat.le_of_ble_eq_true rfl) (Nat.le_of_ble_eq_true rfl) ?_
    refine c_X8_blockH hU ⟨hkc.1, by omega⟩ hh (fun bl => w_p1 ?_)
    obtain ⟨fk, fm, fs, hb, hB⟩ := bl
    exact c_X0_lay_m hs h0 hne hx ec hc nc hr eH eW hK hQ hkin hof hy hev hf hlen (fun _ _ _ => rfl) hU hb hB h
  · refine w_callV1 (pc' := 22) (mc := 16) (ms := 63) dX0_lay_19 rfl tX8_block q639 rfl rfl q640 q638 hU.1 rfl (Nat.le_of_ble_eq_true rfl) (Nat.le_of_ble_eq_true rfl) ?_
    refine c_X8_block hU ⟨hkc.1, by omega⟩ hr.1 (by omega) (by omega) (fun G1 f1 u1 bl => w_p1 ?_)
    obtain ⟨fk, fm, fs, hb, hB⟩ := bl
    exact c_X0_lay_m hs h0 hne hx ec hc nc hr eH eW hK hQ hkin hof hy hev hf hlen f1 u1 hb hB h
/-- what grown changes -/
def gwf (ρ' : Int → Int) (M a' r : Int) (G G' : GH) : Prop := ∀ z : Rl, ¬ ((14 ≤ z.1 ∧ z.1 < 18) ∧ ∃ i, 0 ≤ i ∧ i < M ∧ z.2.1 = ρ' i) → ¬ ((z.1 = 30 ∨ z.1 = 31) ∧ z.2.1 = a') → z ≠ uA r → ¬ ((33 ≤ z.1 ∧ z.1 < 38) ∧ -(40 * r + 40) ≤ z.2.1 ∧ z.2.1 ≤ -1 - 40 * r) → G' z = G z
theorem phi_p {G : GH} {r k : Int} (k0 : 0 ≤ k) (k1 : k < 40) (h : ¬ hasB G r k) : 1 ≤ phi G r := by
  have h0 := (phi_r (G := G) (r := r)).1
  by_cases z : phi G r = 0
  · have y := sm_z (f := fun k => b1 (¬ hasB G r k)) (fun _ _ _ => (b1_r _).1) z k k0 k1
    rw [b1_t h] at y
    omega
  · omega
theorem blk_0 {σ : MS} {r i j : Int} : blk σ r 0 i j = 0 := if_pos rfl
/-- what a row's cells change -/
def gxf (q r : Int) (G G' : GH) : Prop := ∀ z : Rl, ¬ ((14 ≤ z.1 ∧ z.1 < 18) ∧ z.2.1 = q) → z ≠ uA r → ¬ ((33 ≤ z.1 ∧ z.1 < 38) ∧ -(40 * r + 40) ≤ z.2.1 ∧ z.2.1 ≤ -1 - 40 * r) → G' z = G z
/-- the cells of one new row -/
theorem c_X0_grown_x {a a' m r i y q ofs : Int} {ρ : Int → Int} {P : GP} {H W : Nat} {mc ms : Nat} {u ma li : Int} {rg : Option Rl} (hrow : row G (ρ i) (P.1 i) (P.2.1 i) (P.2.2 i)) (hnew : row G q (P.1 i * W) ofs (fun _ => 0)) (hne : q ≠ ρ i) (i0 : 0 ≤ i) (i1 : i < m) (hP : gpok σ m P) (hok : okS σ r m P) (hU : rul G r H W (uB σ r)) (eH : (H : Int) = σ.2 26 r) (eW : (W : Int) = σ.2 27 r) (hr : 0 ≤ r ∧ r < σ.1 29) (hK : kok σ) (hQ : qok σ) (hkin : Rkin σ G) (hof : off G u ma li rg) (hy : 0 ≤ y ∧ y < H) (hmc : 16 * phi G r ≤ mc) (hms : 63 * phi G r ≤ ms)
    (kk : ∀ (G' : GH) (mc' ms' : Nat) (v : Option XV), gxf q r G G' → rul G' r H W (uB σ r) → row G' q (P.1 i * W) ofs (fun s => blk σ r (P.2.2 i (s / W)) y (s % W)) → (mc' : Int) + 16 * phi G r = mc + 16 * phi G' r → (ms' : Int) + 63 * phi G r = ms + 63 * phi G' r → tvW mX0_grown (d + 7) K 140 [some (xR oR), some (xR (lO a)), some (xR (uO r)), some (xR (lO a')), some (xI i), (some (xR (rO (ρ i)))), (some (xI y)), (some (xR (rO q))), v] [] G' mc' ms') {v8 : Option XV} : tvW mX0_grown (d + 7) K 89 [some (xR oR), some (xR (lO a)), some (xR (uO r)), some (xR (lO a')), some (xI i), (some (xR (rO (ρ i)))), (some (xI y)), (some (xR (rO q))), v8] [] G mc ms := by
  have hq := hQ.2 r hr.1 hr.2
  have hk1 := hK.1
  obtain ⟨⟨l0, l1⟩, -, hcell⟩ := hP i i0 i1
  obtain ⟨w1, -, wev⟩ := hok.2 i i0 i1
  rw [← eW] at w1
  rw [← eW, ← eH] at wev
  refine w_iconst (pc' := 90) dX0_grown_89 rfl (by decide) ?_
  refine w_ist8 (pc' := 92) dX0_grown_90 rfl rfl ?_
  -- at 92: .iload 8
  refine up (T := fun x => 0 ≤ x → ∀ (G1 : GH) (mc1 ms1 : Nat), gxf q r G G1 → rul G1 r H W (uB σ r) → row G1 q (P.1 i * W) ofs (fun s => if s < x * W then blk σ r (P.2.2 i (s / W)) y (s % W) else 0) → (mc1 : Int) + 16 * phi G r = mc + 16 * phi G1 r → (ms1 : Int) + 63 * phi G r = ms + 63 * phi G1 r → tvW mX0_grown (d + 7) K 92 [some (xR oR), some (xR (lO a)), some (xR (uO r)), some (xR (lO a')), some (xI i), (some (xR (rO (ρ i)))), (some (xI y)), (some (xR (rO q))), (some (xI x))] [] G1 mc1 ms1) (P.1 i) l0 ?_ ?_ (by omega) G mc ms (fun _ _ _ _ => rfl) hU (row_c (fun s s0 s1 => by rw [Int.zero_mul, if_neg (by omega)]) hnew) rfl rfl
  · intro _ G1 mc1 ms1 f1 u1 r1 e1 e2
    have hr1 : row G1 (ρ i) (P.1 i) (P.2.1 i) (P.2.2 i) := row_e (fun t t0 t1 => f1 _ (by simp only []; omega) (rl_ne (by omega)) (by simp only []; omega)) hrow
    obtain ⟨ro, n, fk, fm, fs, hn, ak, -⟩ := hr1
    refine w_iload (pc' := 94) dX0_grown_92 rfl rfl ?_
    refine w_aload (pc' := 96) dX0_grown_94 rfl rfl ?_
    refine w_get 0 (pc' := 99) dX0_grown_96 rfl fX0_187_5 ro rfl ?_
    refine w_alen (pc' := 100) dX0_grown_99 rfl ak ?_
    -- at 100: .if_icmp .ge 40
    rw [hn]
    refine w_icmp_ge (pc' := 103) (tgt := 140) dX0_grown_100 rfl rfl (fun h_ => ?_) (fun h_ => False.elim (by first | omega | (simp (decide := true) only [au_1, nu_2, au_lt, nu_lt, aw_e, nw_e, au_s, au_n, nu_s, nu_n, au_au, nu_nu, au_nu] at h_; omega)))
    exact kk G1 mc1 ms1 _ f1 u1 (row_c (fun s s0 s1 => by rw [if_pos s1]) r1) e1 e2
  · intro x x0 x1 ih _ G1 mc1 ms1 f1 u1 r1 e1 e2
    have hr1 : row G1 (ρ i) (P.1 i) (P.2.1 i) (P.2.2 i) := row_e (fun t t0 t1 => f1 _ (by simp only []; omega) (rl_ne (by omega)) (by simp only []; omega)) hrow
    have hr1' := hr1
    have hof1 := (f1 oR (by simp only []; omega) (rl_ne (by omega)) (by simp only []; omega)).trans hof
    have hof2 := hof1
    unfold off at hof2
    have kin1 : Rkin σ G1 := Rkin_fr2 (fun z hz => f1 z (by omega) (fun y => by rw [y] at hz; simp only [] at hz; omega) (by omega)) hkin
    obtain ⟨ro, n, fk, fm, fs, hn, ak, am, as, hC⟩ := hr1
    have hci := (hcell x x0 x1).1
    have hfk := (hC x x0 x1).1
    have hxW : 0 ≤ x * (W : Int) := Int.mul_nonneg x0 (by omega)
    have hxW2 : (x + 1) * (W : Int) ≤ P.1 i * W := Int.mul_le_mul (by omega) (by omega) (by omega) (by omega)
    have exW : (x + 1) * (W : Int) = x * W + W := by rw [Int.add_mul, Int.one_mul]
    rw [exW] at hxW2 ih
    have hin : ∀ s : Int, x * W ≤ s → s < x * W + W → s / W = x ∧ s % W = s - x * W := by
      intro s s0 s1
      have z := ixd (a := x) (b := s - x * W) (c := (W : Int)) (by omega) (by omega)
      rw [show x * (W : Int) + (s - x * W) = s by omega] at z
      exact z
    refine w_iload (pc' := 94) dX0_grown_92 rfl rfl ?_
    refine w_aload (pc' := 96) dX0_grown_94 rfl rfl ?_
    refine w_get 0 (pc' := 99) dX0_grown_96 rfl fX0_187_5 ro rfl ?_
    refine w_alen (pc' := 100) dX0_grown_99 rfl ak ?_
    -- at 100: .if_icmp .ge 40
    rw [hn]
    refine w_icmp_ge (pc' := 103) (tgt := 140) dX0_grown_100 rfl rfl (fun h_ => False.elim (by first | omega | (simp (decide := true) only [au_1, nu_2, au_lt, nu_lt, aw_e, nw_e, au_s, au_n, nu_s, nu_n, au_au, nu_nu, au_nu] at h_; omega))) (fun h_ => ?_)
    refine w_aload (pc' := 105) dX0_grown_103 rfl rfl ?_
    refine w_get 0 (pc' := 108) dX0_grown_105 rfl fX0_187_5 ro rfl ?_
    refine w_iload (pc' := 110) dX0_grown_108 rfl rfl ?_
    refine w_bald (pc' := 111) dX0_grown_110 rfl ak x0 (by omega) ?_
    -- at 111: .ifCond .lt 23
    rw [hfk]
    by_cases zc : P.2.2 i x = 0
    · rw [(cd_0 zc).1]
      refine w_if_lt (pc' := 114) (tgt := 134) dX0_grown_111 rfl rfl (fun h_ => ?_) (fun h_ => False.elim (by first | omega | (simp (decide := true) only [au_1, nu_2, au_lt, nu_lt, aw_e, nw_e, au_s, au_n, nu_s, nu_n, au_au, nu_nu, au_nu] at h_; omega)))
      refine w_inc8 (pc' := 137) dX0_grown_134 rfl rfl ⟨by first | omega | (simp (decide := true) only [au_1, nu_2, au_lt, nu_lt, aw_e, nw_e, au_s, au_n, nu_s, nu_n, au_au, nu_nu, au_nu]; omega), by first | omega | (simp (decide := true) only [au_1, nu_2, au_lt, nu_lt, aw_e, nw_e, au_s, au_n, nu_s, nu_n, au_au, nu_nu, au_nu]; omega)⟩ ?_
      refine w_goto (tgt := 92) dX0_grown_137 rfl ?_
      -- at 92: .iload 8
      refine ih (by omega) G1 mc1 ms1 f1 u1 (row_c (fun s s0 s1 => ?_) r1) e1 e2
      by_cases c1 : s < x * W
      · rw [if_pos c1, if_pos (by omega)]
      · rw [if_neg c1]
        by_cases c2 : s < x * W + W
        · rw [if_pos c2, (hin s (by omega) c2).1, zc, blk_0]
        · rw [if_neg c2]
    · have hkc := isC_k hci zc
      rw [(cd_n zc).1]
      refine w_if_lt (pc' := 114) (tgt := 134) dX0_grown_111 rfl rfl (fun h_ => False.elim (by first | omega | (simp (decide := true) only [au_1, nu_2, au_lt, nu_lt, aw_e, nw_e, au_s, au_n, nu_s, nu_n, au_au, nu_nu, au_nu] at h_; omega))) (fun h_ => ?_)
      have nxt : ∀ (G2 : GH) (mc2 ms2 : Nat), lyf q r (kOf (P.2.2 i x)) G1 G2 → rul G2 r H W (uB σ r) → row G2 q (P.1 i * W) ofs (fun t => if x * W ≤ t ∧ t < x * W + W then blk σ r (P.2.2 i x) y (t - x * W) else if t < x * W then blk σ r (P.2.2 i (t / W)) y (t % W) else 0) → (mc2 : Int) + 16 * phi G r = mc + 16 * phi G2 r → (ms2 : Int) + 63 * phi G r = ms + 63 * phi G2 r → tvW mX0_grown (d + 7) K 134 [some (xR oR), some (xR (lO a)), some (xR (uO r)), some (xR (lO a')), some (xI i), (some (xR (rO (ρ i)))), (some (xI y)), (some (xR (rO q))), (some (xI x))] [] G2 mc2 ms2 := by
        intro G2 mc2 ms2 f2 u2 r2 z1 z2
        refine w_inc8 (pc' := 137) dX0_grown_134 rfl rfl ⟨by first | omega | (simp (decide := true) only [au_1, nu_2, au_lt, nu_lt, aw_e, nw_e, au_s, au_n, nu_s, nu_n, au_au, nu_nu, au_nu]; omega), by first | omega | (simp (decide := true) only [au_1, nu_2, au_lt, nu_lt, aw_e, nw_e, au_s, au_n, nu_s, nu_n, au_au, nu_nu, au_nu]; omega)⟩ ?_
        refine w_goto (tgt := 92) dX0_grown_137 rfl ?_
        -- at 92: .iload 8
        refine ih (by omega) G2 mc2 ms2 (fun z y1 y2 y3 => (f2 z y1 y2 (fun w => y3 ⟨w.1, by have := w.2; have w3 : z.2.1 = -1 - (40 * r + kOf (P.2.2 i x)) := w.2; omega⟩)).trans (f1 z y1 y2 y3)) u2 (row_c (fun s s0 s1 => ?_) r2) z1 z2
        by_cases c1 : s < x * W
        · rw [if_pos (show s < x * (W : Int) + W by omega), if_neg (show ¬ (x * (W : Int) ≤ s ∧ s < x * W + W) by omega), if_pos c1]
        · by_cases c2 : s < x * W + W
          · rw [if_pos c2, if_pos (show x * (W : Int) ≤ s ∧ s < x * W + W by omega), (hin s (by omega) c2).1, (hin s (by omega) c2).2]
          · rw [if_neg c2, if_neg (show ¬ (x * (W : Int) ≤ s ∧ s < x * W + W) by omega), if_neg c1]
      have hev : mOf (P.2.2 i x) % 2 = 0 ∨ H = W := by
        have := wev x x0 x1
        omega
      have hro := u1.1
      by_cases hh : hasB G1 r (kOf (P.2.2 i x))
      · refine w_aload_n (pc' := 115) dX0_grown_114 rfl rfl ?_
        refine w_aload (pc' := 117) dX0_grown_115 rfl rfl ?_
        refine w_iload (pc' := 119) dX0_grown_117 rfl rfl ?_
        refine w_aload_n (pc' := 120) dX0_grown_119 rfl rfl ?_
        refine w_get 1 (pc' := 123) dX0_grown_120 rfl fX0_231_7 hro rfl ?_
        refine w_imul (pc' := 124) dX0_grown_123 rfl ⟨by first | omega | (simp (decide := true) only [au_1, nu_2, au_lt, nu_lt, aw_e, nw_e, au_s, au_n, nu_s, nu_n, au_au, nu_nu, au_nu]; omega), by first | omega | (simp (decide := true) only [au_1, nu_2, au_lt, nu_lt, aw_e, nw_e, au_s, au_n, nu_s, nu_n, au_au, nu_nu, au_nu]; omega)⟩ ?_
        refine w_aload_n (pc' := 125) dX0_grown_124 rfl rfl ?_
        refine w_aload (pc' := 127) dX0_grown_125 rfl rfl ?_
        refine w_iload (pc' := 129) dX0_grown_127 rfl rfl ?_
        refine w_iload (pc' := 131) dX0_grown_129 rfl rfl ?_
        -- at 131: .invokevirtual 257
        refine w_callV6 (pc' := 134) (mc := 0) (ms := 0) dX0_grown_131 rfl tX0_lay q673 rfl rfl qs15 q671 hof2 rfl (Nat.le_of_ble_eq_true rfl) (Nat.le_of_ble_eq_true rfl) ?_
        refine c_X0_lay r1 hr1' hne ⟨x0, x1⟩ rfl hci zc hr eH eW u1 hK hQ kin1 hof1 hy hev ⟨hxW, hxW2⟩ w1 (Or.inl hh) (fun G2 f2 h2 u2 r2 => w_p0 ?_)
        have hph := (phi_s (r := r) (k := kOf (P.2.2 i x)) hkc.1 (by omega) (fun z z1 z2 => f2 z (by omega) (fun y => by rw [y] at z1; simp only [] at z1; omega) (fun y => z2 y.2)) h2).1 hh
        exact nxt G2 mc1 ms1 f2 u2 r2 (by omega) (by omega)
      · have hp := phi_p hkc.1 (by omega) hh
        obtain ⟨mc2, rfl⟩ : ∃ m', mc1 = m' + 16 := ⟨mc1 - 16, by omega⟩
        obtain ⟨ms2, rfl⟩ : ∃ m', ms1 = m' + 63 := ⟨ms1 - 63, by omega⟩
        refine w_aload_n (pc' := 115) dX0_grown_114 rfl rfl ?_
        refine w_aload (pc' := 117) dX0_grown_115 rfl rfl ?_
        refine w_iload (pc' := 119) dX0_grown_117 rfl rfl ?_
        refine w_aload_n (pc' := 120) dX0_grown_119 rfl rfl ?_
        refine w_get 1 (pc' := 123) dX0_grown_120 rfl fX0_231_7 hro rfl ?_
        refine w_imul (pc' := 124) dX0_grown_123 rfl ⟨by first | omega | (simp (decide := true) only [au_1, nu_2, au_lt, nu_lt, aw_e, nw_e, au_s, au_n, nu_s, nu_n, au_au, nu_nu, au_nu]; omega), by first | omega | (simp (decide := true) only [au_1, nu_2, au_lt, nu_lt, aw_e, nw_e, au_s, au_n, nu_s, nu_n, au_au, nu_nu, au_nu]; omega)⟩ ?_
        refine w_aload_n (pc' := 125) dX0_grown_124 rfl rfl ?_
        refine w_aload (pc' := 127) dX0_grown_125 rfl rfl ?_
        refine w_iload (pc' := 129) dX0_grown_127 rfl rfl ?_
        refine w_iload (pc' := 131) dX0_grown_129 rfl rfl ?_
        -- at 131: .invokevirtual 257
        refine w_callV6 (pc' := 134) (mc := 16) (ms := 63) dX0_grown_131 rfl tX0_lay q673 rfl rfl qs15 q671 hof2 rfl (Nat.le_of_ble_eq_true rfl) (Nat.le_of_ble_eq_true rfl) ?_
        refine c_X0_lay r1 hr1' hne ⟨x0, x1⟩ rfl hci zc hr eH eW u1 hK hQ kin1 hof1 hy hev ⟨hxW, hxW2⟩ w1 (Or.inr ⟨rfl, rfl⟩) (fun G2 f2 h2 u2 r2 => w_p0 ?_)
        have hph := (phi_s (r := r) (k := kOf (P.2.2 i x)) hkc.1 (by omega) (fun z z1 z2 => f2 z (by omega) (fun y => by rw [y] at z1; simp only [] at z1; omega) (fun y => z2 y.2)) h2).2 hh
        exact nxt G2 mc2 ms2 f2 u2 r2 (by omega) (by omega)
end
