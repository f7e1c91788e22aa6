set_option maxRecDepth 10000
/-- a list with c places -/
def lsc (G : GH) (a n : Int) (c : Nat) (f : Int → Option Rl) : Prop := 0 ≤ n ∧ ∃ (mc j : Int) (e : Rl), G (lO a) = some (xob 9 [xI mc, xR e, xI n]) ∧ lar G a j c n e f
theorem lsc_l {G : GH} {a n : Int} {c : Nat} {f : Int → Option Rl} (h : lsc G a n c f) : lst G a n f := by
  obtain ⟨h0, mc, j, e, h1, h2⟩ := h
  exact ⟨h0, mc, j, c, e, h1, h2⟩
theorem lsc_fr {G G' : GH} {a n : Int} {c : Nat} {f : Int → Option Rl} (hf : ∀ q : Rl, (q.1 = 30 ∨ q.1 = 31) → q.2.1 = a → G' q = G q) (h : lsc G a n c f) : lsc G' a n c f := by
  obtain ⟨h0, mc, j, e, hO, h1, h2, h3, h4⟩ := h
  refine ⟨h0, mc, j, e, (hf _ (Or.inl rfl) rfl).trans hO, fun j' hj => (hf _ (Or.inr rfl) rfl).trans (h1 j' hj), h2, h3, ?_⟩
  rcases h4 with ⟨e1, g, hg, hg'⟩ | h4
  · exact Or.inl ⟨e1, g, (hf _ (Or.inr rfl) rfl).trans hg, hg'⟩
  · exact Or.inr h4
theorem cd_blk {σ : MS} {r c i j : Int} (hK : kok σ) (hc : c ≠ 0) (hB : isC (σ.1 5) (σ.2 28 (640 * r + 16 * kOf c + 4 * cfI (mOf c) (σ.2 26 r) i j + cfJ (mOf c) (σ.2 27 r) i j))) : (σ.2 28 (640 * r + 16 * kOf c + 4 * cfI (mOf c) (σ.2 26 r) i j + cfJ (mOf c) (σ.2 27 r) i j) = 0 → blk σ r c i j = 0) ∧ (σ.2 28 (640 * r + 16 * kOf c + 4 * cfI (mOf c) (σ.2 26 r) i j + cfJ (mOf c) (σ.2 27 r) i j) ≠ 0 → blk σ r c i j ≠ 0 ∧ cdat (blk σ r c i j) 0 = kOf (σ.2 28 (640 * r + 16 * kOf c + 4 * cfI (mOf c) (σ.2 26 r) i j + cfJ (mOf c) (σ.2 27 r) i j)) ∧ cdat (blk σ r c i j) 1 = lie (σ.2 3 (kOf (σ.2 28 (640 * r + 16 * kOf c + 4 * cfI (mOf c) (σ.2 26 r) i j + cfJ (mOf c) (σ.2 27 r) i j)))) (σ.2 1 (kOf (σ.2 28 (640 * r + 16 * kOf c + 4 * cfI (mOf c) (σ.2 26 r) i j + cfJ (mOf c) (σ.2 27 r) i j)))) (thn (mOf (σ.2 28 (640 * r + 16 * kOf c + 4 * cfI (mOf c) (σ.2 26 r) i j + cfJ (mOf c) (σ.2 27 r) i j))) (mOf c)) ∧ cdat (blk σ r c i j) 2 = sOf c) := by
  unfold blk
  rw [if_neg hc]
  generalize σ.2 28 (640 * r + 16 * kOf c + 4 * cfI (mOf c) (σ.2 26 r) i j + cfJ (mOf c) (σ.2 27 r) i j) = B at *
  constructor
  · intro z
    rw [z, cd_mv0, if_pos rfl]
  · intro z
    obtain ⟨k1, k2, k3, k4⟩ := cd_mv hK hB z (mOf_r (c := c))
    have hk := isC_k hB z
    have hkk := hK.1
    obtain ⟨-, tT, -, -⟩ := hK.2 _ hk.1 hk.2
    have hth := thn_r (mOf_r (c := B)).1 (mOf_r (c := B)).2 (mOf_r (c := c)).1 (mOf_r (c := c)).2
    have hl := lie_r (mir := σ.2 3 (kOf B)) tT hth.1 hth.2
    have hn : mvd σ B (mOf c) ≠ 0 := fun y => by
      rw [y, show cdat 0 0 = -1 from rfl] at k1
      omega
    obtain ⟨n1, n2, n3⟩ := cd_n hn
    rw [if_neg hn, ← n1, ← n2, k1, k2]
    obtain ⟨c0, c1, c2⟩ := cd_cel (s := sOf c) (show 0 ≤ kOf B ∧ kOf B < 40 by omega) hl
    refine ⟨?_, c0, c1, c2⟩
    unfold cel
    omega
/-- the block of a kind is there -/
def hasB (G : GH) (r k : Int) : Prop := ∃ fs, G (33, bid r k, 0) = some (xob 6 fs)
section
variable {d : Nat} {K : Option XV → GH → Prop} {G : GH} {bc bs : Nat} {σ : MS}
theorem c_J2_addC_2 {a n mc j : Int} {c : Nat} {e v : Rl} {vs : List XV} {f : Int → Option Rl} {ci : Nat} (hO : G (lO a) = some (xob 9 [xI mc, xR e, xI n])) (h0 : 0 ≤ n) (hA : lar G a j c n e f) (hc : n < c) (has : tv_as 5 ci) (hV : G v = some (xob ci vs)) (hvt : v.1 < 30 ∨ 32 ≤ v.1)
    (h : ∀ G', lfr a G G' → lsc G' a (n + 1) c (rset f n (some v)) → K none G') : tvW mJ2_add_2 (d + 5) K 0 [some (xR (lO a)), some (xR v), some (xR e), some (xI n)] [] G bc bs := by
  obtain ⟨rfl, hc2, hfree, g, hg, hgf⟩ := lar_own h0 hc hA
  refine w_iload_n (pc' := 1) dJ2_add_2_0 rfl rfl ?_
  refine w_aload_n (pc' := 2) dJ2_add_2_1 rfl rfl ?_
  -- at 2: .arraylength
  refine w_alenR (pc' := 3) dJ2_add_2_2 rfl hg ?_
  refine w_icmp_ne (pc' := 6) (tgt := 11) dJ2_add_2_3 rfl rfl (fun h_ => ?_) (fun h_ => False.elim (by first | omega | (simp (decide := true) only [au_1, nu_2, au_lt, nu_lt, aw_e, nw_e, au_s, au_n, nu_s, nu_n, au_au, nu_nu, au_nu] at h_; omega)))
  refine w_aload_n (pc' := 12) dJ2_add_2_11 rfl rfl ?_
  refine w_iload_n (pc' := 13) dJ2_add_2_12 rfl rfl ?_
  refine w_aload_n (pc' := 14) dJ2_add_2_13 rfl rfl ?_
  -- at 14: .aastore
  refine w_aast (pc' := 15) dJ2_add_2_14 rfl hg hV has h0 hc ?_
  refine w_upd (fun G2 a2 f2 => ?_)
  have hO := (f2 _ (rl_ne (by omega))).trans hO
  refine w_aload_n (pc' := 16) dJ2_add_2_15 rfl rfl ?_
  refine w_iload_n (pc' := 17) dJ2_add_2_16 rfl rfl ?_
  refine w_iconst (pc' := 18) dJ2_add_2_17 rfl (by decide) ?_
  refine w_iadd (pc' := 19) dJ2_add_2_18 rfl ⟨by first | omega | (simp (decide := true) only [au_1, nu_2, au_lt, nu_lt, aw_e, nw_e, au_s, au_n, nu_s, nu_n, au_au, nu_nu, au_nu]; omega), by first | omega | (simp (decide := true) only [au_1, nu_2, au_lt, nu_lt, aw_e, nw_e, au_s, au_n, nu_s, nu_n, au_au, nu_nu, au_nu]; omega)⟩ ?_
  refine w_put 2 (pc' := 22) dJ2_add_2_19 rfl pJ2_48_9 (by decide) hO (Nat.le_of_ble_eq_true rfl) trivial ?_
  -- at 22: .return_
  refine w_upd (fun G3 a3 f3 => ?_)
  have a2 := (f3 _ (rl_ne (by omega))).trans a2
  refine w_return dJ2_add_2_22 rfl ?_
  refine h G3 (lfr_t (lfr_a f2) (lfr_o f3)) ⟨by omega, _, _, _, a3, ⟨?_, by omega, hc2, Or.inl ⟨rfl, _, a2, ?_⟩⟩⟩
  · intro j' hj
    rw [f3 _ (rl_ne (by omega)), f2 _ (rl_ne (by omega))]
    exact hfree j' hj
  · intro i i0 i1
    unfold rset
    split
    · rfl
    · exact hgf i i0 (by omega)
theorem c_J2_addC {a n : Int} {c : Nat} {v : Rl} {vs : List XV} {f : Int → Option Rl} {ci : Nat} (hl : lsc G a n c f) (hc : n < c) (has : tv_as 5 ci) (hV : G v = some (xob ci vs)) (hvt : v.1 < 30 ∨ 32 ≤ v.1)
    (h : ∀ G', lfr a G G' → lsc G' a (n + 1) c (rset f n (some v)) → K (some (xI 1)) G') : tvW mJ2_add (d + 6) K 0 [some (xR (lO a)), some (xR v)] [] G bc bs := by
  obtain ⟨h0, mc, j, e, hO, hA⟩ := hl
  refine w_aload_n (pc' := 1) dJ2_add_0 rfl rfl ?_
  refine w_dup (pc' := 2) dJ2_add_1 rfl rfl ?_
  refine w_get 0 (pc' := 5) dJ2_add_2 rfl fJ2_63_9 hO rfl ?_
  refine w_iconst (pc' := 6) dJ2_add_5 rfl (by decide) ?_
  refine w_iaddW (pc' := 7) dJ2_add_6 rfl ?_
  refine w_put 0 (pc' := 10) dJ2_add_7 rfl pJ2_63_9 (by decide) hO (Nat.le_of_ble_eq_true rfl) trivial ?_
  -- at 10: .aload_n 0
  refine w_upd (fun G1 a1 f1 => ?_)
  have fr := lfr_o f1
  refine w_aload_n (pc' := 11) dJ2_add_10 rfl rfl ?_
  refine w_aload_n (pc' := 12) dJ2_add_11 rfl rfl ?_
  refine w_aload_n (pc' := 13) dJ2_add_12 rfl rfl ?_
  refine w_get 1 (pc' := 16) dJ2_add_13 rfl fJ2_9_9 a1 rfl ?_
  refine w_aload_n (pc' := 17) dJ2_add_16 rfl rfl ?_
  refine w_get 2 (pc' := 20) dJ2_add_17 rfl fJ2_48_9 a1 rfl ?_
  -- at 20: .invokevirtual 131
  refine w_callV3 (pc' := 23) (mc := 0) (ms := 0) dJ2_add_20 rfl tJ2_add_2 q262 rfl rfl qs0 q260 a1 rfl (Nat.le_of_ble_eq_true rfl) (Nat.le_of_ble_eq_true rfl) ?_
  refine c_J2_addC_2 a1 h0 (lar_o hA f1) hc has (lfr_V fr hvt hV) hvt (fun G' q1 q2 => w_p0 ?_)
  refine w_iconst (pc' := 24) dJ2_add_23 rfl (by decide) ?_
  -- at 24: .ireturn
  refine w_zreturn dJ2_add_24 rfl (by first | exact Or.inl rfl | exact Or.inr rfl | omega) ?_
  exact h G' (lfr_t fr q1) q2
theorem c_J2_initC {a : Int} {m : Nat} {f : Int → Option Rl} (hO : G (lO a) = some (xob 9 [xI 0, xN, xI 0])) (hF : ∀ j, G (lA a j) = none) (hm : m ≤ 60) (h : ∀ G', lfr a G G' → lsc G' a 0 m f → K none G') : tvW mJ2_init_3 (d + 3) K 0 [some (xR (lO a)), some (xI m)] [] G 1 60 := by
  refine w_aload_n (pc' := 1) dJ2_init_3_0 rfl rfl ?_
  -- at 1: .invokespecial 1
  refine w_callI0 (pc' := 4) (mc := 0) (ms := 0) dJ2_init_3_1 rfl tJ1_init rfl rfl q118 (Or.inl q117) rfl (Nat.le_of_ble_eq_true rfl) (Nat.le_of_ble_eq_true rfl) ?_
  refine c_J1_init hO (w_p0 ?_)
  refine w_upd (fun G1 a1 f1 => ?_)
  have hF : ∀ j, G1 (lA a j) = none := fun j => (f1 _ (rl_ne (by omega))).trans (hF j)
  refine w_iload_n (pc' := 5) dJ2_init_3_4 rfl rfl ?_
  -- at 5: .ifCond .le 14
  refine w_if_le (pc' := 8) (tgt := 19) dJ2_init_3_5 rfl rfl (fun q => ?_) (fun q => ?_)
  · refine w_iload_n (pc' := 20) dJ2_init_3_19 rfl rfl ?_
    -- at 20: .ifCond .ne 13
    refine w_if_ne (pc' := 23) (tgt := 33) dJ2_init_3_20 rfl rfl (fun h_ => False.elim (by first | omega | (simp (decide := true) only [au_1, nu_2, au_lt, nu_lt, aw_e, nw_e, au_s, au_n, nu_s, nu_n, au_au, nu_nu, au_nu] at h_; omega))) (fun h_ => ?_)
    refine w_aload_n (pc' := 24) dJ2_init_3_23 rfl rfl ?_
    refine w_gets (n := 1) (pc' := 27) dJ2_init_3_24 rfl q414 (Or.inr ⟨rfl, rfl⟩) ?_
    refine w_put 1 (pc' := 30) dJ2_init_3_27 rfl pJ2_9_9 (by decide) a1 (Nat.le_of_ble_eq_true rfl) trivial ?_
    refine w_goto (tgt := 60) dJ2_init_3_30 rfl ?_
    -- at 60: .return_
    refine w_upd (fun G2 a2 f2 => ?_)
    refine w_return dJ2_init_3_60 rfl ?_
    have em : m = 0 := by omega
    subst em
    exact h G2 (lfr_t (lfr_o f1) (lfr_o f2)) ⟨by omega, _, 0, _, a2, ⟨fun j' _ => (f2 _ (rl_ne (by omega))).trans (hF j'), by omega, by omega, Or.inr ⟨rfl, Or.inr rfl⟩⟩⟩
  · have hF0 := hF 0
    refine w_less (bc' := 0 + 1) (bs' := 0 + m) (by omega) (by omega) ?_
    refine w_aload_n (pc' := 9) dJ2_init_3_8 rfl rfl ?_
    refine w_iload_n (pc' := 10) dJ2_init_3_9 rfl rfl ?_
    refine w_newr (t := 5) (lA a 0) m (pc' := 13) dJ2_init_3_10 rfl (by decide) rfl q314 q305 rfl (by omega) (by assumption) (by first | assumption | simp) ?_
    -- at 13: .putfield 9
    refine w_upd (fun G2 a2 f2 => ?_)
    have a1 := (f2 _ (rl_ne (by omega))).trans a1
    refine w_put 1 (pc' := 16) dJ2_init_3_13 rfl pJ2_9_9 (by decide) a1 (Nat.le_of_ble_eq_true rfl) trivial ?_
    refine w_goto (tgt := 60) dJ2_init_3_16 rfl ?_
    -- at 60: .return_
    refine w_upd (fun G3 a3 f3 => ?_)
    have a2 := (f3 _ (rl_ne (by omega))).trans a2
    refine w_return dJ2_init_3_60 rfl ?_
    refine h G3 (lfr_t (lfr_o f1) (lfr_t (lfr_a f2) (lfr_o f3))) ⟨by omega, _, 0, _, a3, ⟨fun j' _ => ?_, by omega, by omega, Or.inl ⟨rfl, _, a2, fun i h0 h1 => by omega⟩⟩⟩
    rw [f3 _ (rl_ne (by omega)), f2 _ (rl_ne (by omega))]
    exact hF j'
/-- a block that is there -/
theorem c_X8_blockH {r k : Int} {H W : Nat} {B : Int → Int → Int → Int} (hU : rul G r H W B) (hk : 0 ≤ k ∧ k < 40) (hh : hasB G r k)
    (h : (∃ fk fm fs, blo G (bid r k) H W fk fm fs ∧ ∀ i j : Int, 0 ≤ i → i < H → 0 ≤ j → j < W → fk i j = cdat (B k i j) 0 ∧ fm i j = cdat (B k i j) 1) → K (some (xR (33, bid r k, 0))) G) : tvW mX8_block (d + 2) K 0 [some (xR (uO r)), some (xI k)] [] G bc bs := by
  obtain ⟨hO, g, hA, hg⟩ := hU
  rcases hg k hk.1 hk.2 with ⟨q1, q2, q3⟩ | ⟨q1, fk, fm, fs, q2, q3⟩
  · obtain ⟨fs, hh⟩ := hh
    rw [q2 33 0 (by omega) (by omega)] at hh
    cases hh
  · refine w_aload_n (pc' := 1) dX8_block_0 rfl rfl ?_
    refine w_get 2 (pc' := 4) dX8_block_1 rfl fX8_11_7 hO rfl ?_
    refine w_iload_n (pc' := 5) dX8_block_4 rfl rfl ?_
    refine w_aald (pc' := 6) dX8_block_5 rfl hA (by omega) (by omega) ?_
    -- at 6: .ifnonnull 24
    rw [q1]
    refine w_ifnonnull (pc' := 9) (tgt := 30) dX8_block_6 rfl rfl (fun h_ => ?_) (fun h_ => False.elim (nomatch h_))
    refine w_aload_n (pc' := 31) dX8_block_30 rfl rfl ?_
    refine w_get 2 (pc' := 34) dX8_block_31 rfl fX8_11_7 hO rfl ?_
    refine w_iload_n (pc' := 35) dX8_block_34 rfl rfl ?_
    refine w_aald (pc' := 36) dX8_block_35 rfl hA (by omega) (by omega) ?_
    -- at 36: .areturn
    rw [q1]
    refine w_areturn dX8_block_36 rfl ?_
    exact h ⟨fk, fm, fs, q2, q3⟩
/-- the cells of a block's row, from a block on -/
theorem c_X0_lay_l {q q0 x y fr r len ofs len0 ofs0 c : Int} {H W : Nat} {C0 Cs : Int → Int} {fk fm fs : Int → Int → Int} {u m l : Int} {rg : Option Rl} (hs : row G q len ofs Cs) (h0 : row G q0 len0 ofs0 C0) (hne : q ≠ q0) (hx : 0 ≤ x ∧ x < len0) (ec : C0 x = c) (hc : isC (σ.1 5) c) (nc : c ≠ 0) (hr : 0 ≤ r ∧ r < σ.1 29) (eH : (H : Int) = σ.2 26 r) (eW : (W : Int) = σ.2 27 r) (hO : G (uO r) = some (xob 7 [xI H, xI W, xR (uA r)])) (hb : blo G (bid r (kOf c)) H W fk fm fs) (hB : ∀ i j : Int, 0 ≤ i → i < H → 0 ≤ j → j < W → fk i j = cdat (uB σ r (kOf c) i j) 0 ∧ fm i j = cdat (uB σ r (kOf c) i j) 1) (hK : kok σ) (hQ : qok σ) (hkin : Rkin σ G) (hof : off G u m l rg) (hy : 0 ≤ y ∧ y < H) (hev : mOf c % 2 = 0 ∨ H = W) (hf : 0 ≤ fr ∧ fr + W ≤ len) (hlen : len ≤ 60)
    (h : ∀ G', rfr q G G' → row G' q len ofs (fun t => if fr ≤ t ∧ t < fr + W then blk σ r c y (t - fr) else Cs t) → K none G') : tvW mX0_lay (d + 4) K 27 [some (xR oR), some (xR (rO q)), some (xI fr), some (xR (uO r)), some (xR (rO q0)), some (xI x), some (xI y), some (xI (mOf c)), some (xR (33, bid r (kOf c), 0)), some (xI 0), none, none, none] [] G bc bs := by
  have hq := hQ.2 r hr.1 hr.2
  have hkc := isC_k hc nc
  have hk1 := hK.1
  have hm := mOf_r (c := c)
  have eu : ∀ k i j : Int, uB σ r k i j = σ.2 28 (640 * r + 16 * k + 4 * i + j) := fun _ _ _ => rfl
  refine w_rtA (fun rt => ?_)
  refine up (T := fun k => 0 ≤ k → ∀ (a b c' : Option XV) (G1 : GH), rfr q G G1 → row G1 q len ofs (fun t => if fr ≤ t ∧ t < fr + k then blk σ r c y (t - fr) else Cs t) → tvW mX0_lay (d + 4) K 27 [some (xR oR), some (xR (rO q)), some (xI fr), some (xR (uO r)), some (xR (rO q0)), some (xI x), some (xI y), some (xI (mOf c)), some (xR (33, bid r (kOf c), 0)), some (xI k), a, b, c'] [] G1 bc bs) (W : Int) (by omega) ?_ ?_ (by omega) none none none G (fun _ _ => rfl) (row_c (fun t t0 t1 => by rw [if_neg (by omega)]) hs)
  · intro _ a b c' G1 f1 r1
    have hO1 := (f1 (uO r) (by simp only []; omega)).trans hO
    refine w_iload (pc' := 29) dX0_lay_27 rfl rfl ?_
    refine w_aload_n (pc' := 30) dX0_lay_29 rfl rfl ?_
    refine w_get 1 (pc' := 33) dX0_lay_30 rfl fX0_231_7 hO1 rfl ?_
    -- at 33: .if_icmp .ge 119
    refine w_icmp_ge (pc' := 36) (tgt := 152) dX0_lay_33 rfl rfl (fun h_ => ?_) (fun h_ => False.elim (by first | omega | (simp (decide := true) only [au_1, nu_2, au_lt, nu_lt, aw_e, nw_e, au_s, au_n, nu_s, nu_n, au_au, nu_nu, au_nu] at h_; omega)))
    refine w_return dX0_lay_152 rfl ?_
    exact h G1 f1 r1
  · intro k k0 k1 ih _ a b c' G1 f1 r1
    have hO1 := (f1 (uO r) (by simp only []; omega)).trans hO
    have hof1 := (f1 oR (by simp only []; omega)).trans hof
    unfold off at hof1
    have kin1 : Rkin σ G1 := Rkin_fr2 (fun z hz => f1 z (by omega)) hkin
    have b1' : blo G1 (bid r (kOf c)) H W fk fm fs := blo_fr (fun z z1 z2 => f1 z (by omega)) hb
    have h01 : row G1 q0 len0 ofs0 C0 := row_e (fun t t0 t1 => f1 _ (by simp only []; omega)) h0
    have mR1 : y < mvR (mOf c) H W := by
      unfold mvR
      split <;> omega
    have mC1 : k < mvC (mOf c) H W := by
      unfold mvC
      split <;> omega
    obtain ⟨⟨ci0, ci1⟩, cj0, cj1⟩ := cf_r (r := (H : Int)) (c := (W : Int)) hm hy.1 mR1 k0 mC1
    obtain ⟨n1, n2, n3, n4, n5⟩ := b1'
    obtain ⟨⟨ga, ga1, ga2⟩, ⟨gb, gb1, gb2⟩, -⟩ := n5 _ ci0 ci1
    obtain ⟨B1, B2⟩ := hB _ _ ci0 ci1 cj0 cj1
    have g1 := (ga2 _ cj0 cj1).trans B1
    have g2 := (gb2 _ cj0 cj1).trans B2
    obtain ⟨hi0, -⟩ := (hq.2.2 (kOf c) _ _ hkc.1 (by omega) ci0 (show cfI (mOf c) H y k < 4 by omega) cj0 (show cfJ (mOf c) W y k < 4 by omega))
    have hblk := cd_blk (r := r) (i := y) (j := k) hK nc (by rw [← eH, ← eW]; exact hi0)
    rw [← eH, ← eW] at hblk
    rw [eu] at g1 g2
    generalize hBB : σ.2 28 (640 * r + 16 * kOf c + 4 * cfI (mOf c) H y k + cfJ (mOf c) W y k) = B at *
    obtain ⟨rn, rk, rm, rs, hrn, ak, am, as, ck, cm, cs⟩ := row_at h01 hx.1 hx.2
    rw [ec] at cs
    have rgs : -32768 ≤ sOf c ∧ sOf c ≤ 32767 := by
      have z : -32768 ≤ rs x ∧ rs x ≤ 32767 := rt (rS q0) 2 rn rs ((f1 (rS q0) (by simp only []; omega)).symm.trans as) x
      rw [cs, (cd_n nc).2.2] at z
      exact z
    rw [(cd_n nc).2.2] at cs
    have nxt : ∀ (ki mo sh : Int), ki = cdat (blk σ r c y k) 0 → mo = cdat (blk σ r c y k) 1 → sh = cdat (blk σ r c y k) 2 → (-1 ≤ ki ∧ ki < 40) → (0 ≤ mo ∧ mo < 8) → (-32768 ≤ sh ∧ sh ≤ 32767) → tvW mX0_lay (d + 4) K 143 [some (xR oR), some (xR (rO q)), some (xI fr), some (xR (uO r)), some (xR (rO q0)), some (xI x), some (xI y), some (xI (mOf c)), some (xR (33, bid r (kOf c), 0)), some (xI k), (some (xI (cfI (mOf c) H y k))), (some (xI (cfJ (mOf c) W y k))), (some (xI ki))] [xI sh, xI mo, xI ki, xI (fr + k), xR (rO q)] G1 bc bs := by
      intro ki mo sh e1 e2 e3 b1 b2 b3
      refine w_callV4 (pc' := 146) (mc := 0) (ms := 0) dX0_lay_143 rfl tX6_set q521 rfl rfl q522 q520 r1.1 rfl (Nat.le_of_ble_eq_true rfl) (Nat.le_of_ble_eq_true rfl) ?_
      refine c_X6_set (c := blk σ r c y k) r1 ⟨by omega, by omega⟩ e1 e2 e3 ⟨by omega, by omega⟩ ⟨by omega, by omega⟩ b3 (fun G2 f2 r2 => w_p0 ?_)
      refine w_inc9 (pc' := 149) dX0_lay_146 rfl rfl ⟨by first | omega | (simp (decide := true) only [au_1, nu_2, au_lt, nu_lt, aw_e, nw_e, au_s, au_n, nu_s, nu_n, au_au, nu_nu, au_nu]; omega), by first | omega | (simp (decide := true) only [au_1, nu_2, au_lt, nu_lt, aw_e, nw_e, au_s, au_n, nu_s, nu_n, au_au, nu_nu, au_nu]; omega)⟩ ?_
      refine w_goto (tgt := 27) dX0_lay_149 rfl ?_
      -- at 27: .iload 9
      refine ih (by omega) _ _ _ G2 (fun z hz => (f2 z hz).trans (f1 z hz)) (row_c (fun t t0 t1 => ?_) r2)
      unfold iset
      by_cases e : t = fr + k
      · rw [if_pos e, if_pos (by omega), e, show fr + k - fr = k by omega]
      · rw [if_neg e]
        simp only []
        by_cases e2 : fr ≤ t ∧ t < fr + k
        · rw [if_pos e2, if_pos (by omega)]
        · rw [if_neg e2, if_neg (by omega)]
    refine w_iload (pc' := 29) dX0_lay_27 rfl rfl ?_
    refine w_aload_n (pc' := 30) dX0_lay_29 rfl rfl ?_
    refine w_get 1 (pc' := 33) dX0_lay_30 rfl fX0_231_7 hO1 rfl ?_
    -- at 33: .if_icmp .ge 119
    refine w_icmp_ge (pc' := 36) (tgt := 152) dX0_lay_33 rfl rfl (fun h_ => False.elim (by first | omega | (simp (decide := true) only [au_1, nu_2, au_lt, nu_lt, aw_e, nw_e, au_s, au_n, nu_s, nu_n, au_au, nu_nu, au_nu] at h_; omega))) (fun h_ => ?_)
    refine w_iload (pc' := 38) dX0_lay_36 rfl rfl ?_
    refine w_aload_n (pc' := 39) dX0_lay_38 rfl rfl ?_
    refine w_get 0 (pc' := 42) dX0_lay_39 rfl fX0_229_7 hO1 rfl ?_
    refine w_iload (pc' := 44) dX0_lay_42 rfl rfl ?_
    refine w_iload (pc' := 46) dX0_lay_44 rfl rfl ?_
    -- at 46: .invokestatic 261
    refine w_callS4 (pc' := 49) (mc := 0) (ms := 0) dX0_lay_46 rfl tX3_row q591 q675 rfl (Nat.le_of_ble_eq_true rfl) (Nat.le_of_ble_eq_true rfl) ?_
    refine c_X3_row ⟨by omega, by omega⟩ ⟨by omega, by omega⟩ ⟨by omega, by omega⟩ ?_
    refine w_p1 ?_
    refine w_ist10 (pc' := 51) dX0_lay_49 rfl rfl ?_
    refine w_iload (pc' := 53) dX0_lay_51 rfl rfl ?_
    refine w_aload_n (pc' := 54) dX0_lay_53 rfl rfl ?_
    refine w_get 1 (pc' := 57) dX0_lay_54 rfl fX0_231_7 hO1 rfl ?_
    refine w_iload (pc' := 59) dX0_lay_57 rfl rfl ?_
    refine w_iload (pc' := 61) dX0_lay_59 rfl rfl ?_
    -- at 61: .invokestatic 264
    refine w_callS4 (pc' := 64) (mc := 0) (ms := 0) dX0_lay_61 rfl tX3_column q594 q676 rfl (Nat.le_of_ble_eq_true rfl) (Nat.le_of_ble_eq_true rfl) ?_
    refine c_X3_column hm ⟨by omega, by omega⟩ ⟨by omega, by omega⟩ ⟨by omega, by omega⟩ ?_
    refine w_p1 ?_
    refine w_ist11 (pc' := 66) dX0_lay_64 rfl rfl ?_
    refine w_aload (pc' := 68) dX0_lay_66 rfl rfl ?_
    refine w_get 0 (pc' := 71) dX0_lay_68 rfl fX0_207_6 n1 rfl ?_
    refine w_iload (pc' := 73) dX0_lay_71 rfl rfl ?_
    refine w_aaldM (pc' := 74) dX0_lay_73 rfl n2 ci0 ci1 ?_
    refine w_iload (pc' := 76) dX0_lay_74 rfl rfl ?_
    refine w_bald (pc' := 77) dX0_lay_76 rfl ga1 cj0 cj1 ?_
    -- at 77: .istore 12
    rw [g1]
    by_cases z : B = 0
    · rw [(cd_0 z).1]
      refine w_ist12 (pc' := 79) dX0_lay_77 rfl rfl ?_
      refine w_aload_n (pc' := 80) dX0_lay_79 rfl rfl ?_
      refine w_iload_n (pc' := 81) dX0_lay_80 rfl rfl ?_
      refine w_iload (pc' := 83) dX0_lay_81 rfl rfl ?_
      refine w_iadd (pc' := 84) dX0_lay_83 rfl ⟨by first | omega | (simp (decide := true) only [au_1, nu_2, au_lt, nu_lt, aw_e, nw_e, au_s, au_n, nu_s, nu_n, au_au, nu_nu, au_nu]; omega), by first | omega | (simp (decide := true) only [au_1, nu_2, au_lt, nu_lt, aw_e, nw_e, au_s, au_n, nu_s, nu_n, au_au, nu_nu, au_nu]; omega)⟩ ?_
      refine w_iload (pc' := 86) dX0_lay_84 rfl rfl ?_
      refine w_iload (pc' := 88) dX0_lay_86 rfl rfl ?_
      -- at 88: .ifCond .ge 7
      refine w_if_ge (pc' := 91) (tgt := 95) dX0_lay_88 rfl rfl (fun h_ => False.elim (by first | omega | (simp (decide := true) only [au_1, nu_2, au_lt, nu_lt, aw_e, nw_e, au_s, au_n, nu_s, nu_n, au_au, nu_nu, au_nu] at h_; omega))) (fun h_ => ?_)
      refine w_iconst (pc' := 92) dX0_lay_91 rfl (by decide) ?_
      refine w_goto (tgt := 126) dX0_lay_92 rfl ?_
      refine w_iload (pc' := 128) dX0_lay_126 rfl rfl ?_
      -- at 128: .ifCond .ge 7
      refine w_if_ge (pc' := 131) (tgt := 135) dX0_lay_128 rfl rfl (fun h_ => False.elim (by first | omega | (simp (decide := true) only [au_1, nu_2, au_lt, nu_lt, aw_e, nw_e, au_s, au_n, nu_s, nu_n, au_au, nu_nu, au_nu] at h_; omega))) (fun h_ => ?_)
      refine w_iconst (pc' := 132) dX0_lay_131 rfl (by decide) ?_
      refine w_goto (tgt := 143) dX0_lay_132 rfl ?_
      -- at 143: .invokevirtual 184
      rw [hblk.1 z] at nxt
      exact nxt (-1) 0 0 rfl rfl rfl ⟨by omega, by omega⟩ ⟨by omega, by omega⟩ ⟨by omega, by omega⟩
    · obtain ⟨-, e1, e2, e3⟩ := hblk.2 z
      have hkB := isC_k hi0 z
      obtain ⟨-, tT, -, -⟩ := hK.2 _ hkB.1 hkB.2
      have tl := kin1.2 _ hkB.1 hkB.2
      obtain ⟨lf, hlO⟩ := lst_o kin1.1
      have hmB := mOf_r (c := B)
      have hth := thn_r hmB.1 hmB.2 hm.1 hm.2
      rw [(cd_n z).1]
      rw [(cd_n z).2.1] at g2
      refine w_ist12 (pc' := 79) dX0_lay_77 rfl rfl ?_
      refine w_aload_n (pc' := 80) dX0_lay_79 rfl rfl ?_
      refine w_iload_n (pc' := 81) dX0_lay_80 rfl rfl ?_
      refine w_iload (pc' := 83) dX0_lay_81 rfl rfl ?_
      refine w_iadd (pc' := 84) dX0_lay_83 rfl ⟨by first | omega | (simp (decide := true) only [au_1, nu_2, au_lt, nu_lt, aw_e, nw_e, au_s, au_n, nu_s, nu_n, au_au, nu_nu, au_nu]; omega), by first | omega | (simp (decide := true) only [au_1, nu_2, au_lt, nu_lt, aw_e, nw_e, au_s, au_n, nu_s, nu_n, au_au, nu_nu, au_nu]; omega)⟩ ?_
      refine w_iload (pc' := 86) dX0_lay_84 rfl rfl ?_
      refine w_iload (pc' := 88) dX0_lay_86 rfl rfl ?_
      -- at 88: .ifCond .ge 7
      refine w_if_ge (pc' := 91) (tgt := 95) dX0_lay_88 rfl rfl (fun h_ => ?_) (fun h_ => False.elim (by first | omega | (simp (decide := true) only [au_1, nu_2, au_lt, nu_lt, aw_e, nw_e, au_s, au_n, nu_s, nu_n, au_au, nu_nu, au_nu] at h_; omega)))
      refine w_aload_n (pc' := 96) dX0_lay_95 rfl rfl ?_
      refine w_get 0 (pc' := 99) dX0_lay_96 rfl fX0_10_0 hof1 rfl ?_
      refine w_iload (pc' := 101) dX0_lay_99 rfl rfl ?_
      -- at 101: .invokevirtual 58
      refine w_callV1 (pc' := 104) (mc := 0) (ms := 0) dX0_lay_101 rfl tJ2_get q211 rfl rfl q212 q210 hlO rfl (Nat.le_of_ble_eq_true rfl) (Nat.le_of_ble_eq_true rfl) ?_
      refine c_J2_get kin1.1 ⟨hkB.1, hkB.2⟩ ?_
      refine w_p1 ?_
      refine w_cast (pc' := 107) dX0_lay_104 rfl tl.1 rfl q224 ?_
      refine w_aload (pc' := 109) dX0_lay_107 rfl rfl ?_
      refine w_get 1 (pc' := 112) dX0_lay_109 rfl fX0_210_6 n1 rfl ?_
      refine w_iload (pc' := 114) dX0_lay_112 rfl rfl ?_
      refine w_aaldM (pc' := 115) dX0_lay_114 rfl n3 ci0 ci1 ?_
      refine w_iload (pc' := 117) dX0_lay_115 rfl rfl ?_
      refine w_bald (pc' := 118) dX0_lay_117 rfl gb1 cj0 cj1 ?_
      -- at 118: .iload 7
      rw [g2]
      refine w_iload (pc' := 120) dX0_lay_118 rfl rfl ?_
      -- at 120: .invokestatic 117
      refine w_callS2 (pc' := 123) (mc := 0) (ms := 0) dX0_lay_120 rfl tX3_then q349 q348 rfl (Nat.le_of_ble_eq_true rfl) (Nat.le_of_ble_eq_true rfl) ?_
      refine c_X3_then hmB hm ?_
      refine w_p1 ?_
      refine w_callV1 (pc' := 126) (mc := 0) (ms := 0) dX0_lay_123 rfl tX2_lies q327 rfl rfl q328 q326 tl.1 rfl (Nat.le_of_ble_eq_true rfl) (Nat.le_of_ble_eq_true rfl) ?_
      refine c_X2_lies tl tT hth ?_
      refine w_p1 ?_
      refine w_iload (pc' := 128) dX0_lay_126 rfl rfl ?_
      -- at 128: .ifCond .ge 7
      refine w_if_ge (pc' := 131) (tgt := 135) dX0_lay_128 rfl rfl (fun h_ => ?_) (fun h_ => False.elim (by first | omega | (simp (decide := true) only [au_1, nu_2, au_lt, nu_lt, aw_e, nw_e, au_s, au_n, nu_s, nu_n, au_au, nu_nu, au_nu] at h_; omega)))
      refine w_aload (pc' := 137) dX0_lay_135 rfl rfl ?_
      refine w_get 2 (pc' := 140) dX0_lay_137 rfl fX0_190_5 h01.1 rfl ?_
      refine w_iload (pc' := 142) dX0_lay_140 rfl rfl ?_
      refine w_sald (pc' := 143) dX0_lay_142 rfl as hx.1 (by omega) ?_
      -- at 143: .invokevirtual 184
      rw [cs]
      exact nxt _ _ _ e1.symm e2.symm e3.symm ⟨by omega, by omega⟩ (lie_r tT hth.1 hth.2) rgs
end
