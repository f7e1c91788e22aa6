set_option maxRecDepth 10000
theorem cd_cel {k m s : Int} (hk : 0 ≤ k ∧ k < 40) (hm : 0 ≤ m ∧ m < 8) : cdat (cel k m s) 0 = k ∧ cdat (cel k m s) 1 = m ∧ cdat (cel k m s) 2 = s := by
  have n : cel k m s ≠ 0 := by unfold cel; omega
  obtain ⟨e1, e2, e3⟩ := cd_n n
  rw [e1, e2, e3]
  unfold kOf mOf sOf cel
  omega
theorem row_own {σ : MS} {p i : Int} {G : GH} (hm : 0 ≤ σ.1 9) (h : Rrow (sOwn σ p i) G) : row G (σ.1 9) (σ.2 6 (rw_ σ p i)) (σ.2 7 (rw_ σ p i)) (fun k => (sOwn σ p i).2 8 (60 * σ.1 9 + k)) := by
  have rr := h (σ.1 9) hm (show σ.1 9 < σ.1 9 + 1 by omega)
  have e6 : (sOwn σ p i).2 6 (σ.1 9) = σ.2 6 (rw_ σ p i) := if_pos rfl
  have e7 : (sOwn σ p i).2 7 (σ.1 9) = σ.2 7 (rw_ σ p i) := if_pos rfl
  rw [e6, e7] at rr
  exact rr
theorem Rx_oset {σ : MS} {pl cl : Int → Int} {N b p i j c : Int} {rg : Option Rl} {G G' : GH} (hw : Rx (sOwn σ p i) (pl, cl, N, b, rg) G) (hR : rok σ) (hP : pok σ) (p0 : 0 ≤ p) (p1 : p < σ.1 12) (hs : hs_ σ p i j) (hm6 : σ.1 9 < 6000) (fr : rfr (σ.1 9) G G')
    (hr : row G' (σ.1 9) (σ.2 6 (rw_ σ p i)) (σ.2 7 (rw_ σ p i)) (iset (fun k => (sOwn σ p i).2 8 (60 * σ.1 9 + k)) (j - σ.2 7 (rw_ σ p i)) c)) : Rx (au (sOwn σ p i) 8 (iset ((sOwn σ p i).2 8) (60 * σ.1 9 + j - σ.2 7 (rw_ σ p i)) c)) (pl, cl, N, b, rg) G' := by
  obtain ⟨i0, i1, j0, j1⟩ := hs
  have hrw := (hP.2 p p0 p1).2 i i0 i1
  have hR2 : rok (sOwn σ p i) := rok_own hR hm6 hrw
  have hm0 := hR.1.1
  have e6 : (sOwn σ p i).2 6 (σ.1 9) = σ.2 6 (rw_ σ p i) := if_pos rfl
  have e7 : (sOwn σ p i).2 7 (σ.1 9) = σ.2 7 (rw_ σ p i) := if_pos rfl
  rw [show 60 * σ.1 9 + j - σ.2 7 (rw_ σ p i) = 60 * σ.1 9 + (j - σ.2 7 (rw_ σ p i)) by omega]
  exact Rx_set (σ := sOwn σ p i) (q := σ.1 9) (x := j - σ.2 7 (rw_ σ p i)) hw (fun r r0 r1 => (hR2.2 r r0 r1).1) p0 p1 hm0 (show σ.1 9 < σ.1 9 + 1 by omega) (by omega) (by rw [e6]; omega) fr (by rw [e6, e7]; exact hr)
section
variable {d : Nat} {K : Option XV → GH → Prop} {G0 G : GH} {bc bs : Nat} {σ : MS} {w : RW}
theorem c_X0_put_t {p i j k m : Int} (hw : Rx σ w G) (hK : kok σ) (hR : rok σ) (hP : pok σ) (p0 : 0 ≤ p) (p1 : p < σ.1 12) (hs : hs_ σ p i j) (hm6 : σ.1 9 < 6000) (hk : k = -1 ∨ (0 ≤ k ∧ k < σ.1 5) ∧ 0 ≤ m ∧ m < 8) (h : ∀ G', tfr G G' → Rel (au (sOwn σ p i) 8 (iset ((sOwn σ p i).2 8) (60 * σ.1 9 + j - σ.2 7 (rw_ σ p i)) (pcel σ k m))) G' → K (some (xI 1)) G') : tvW mX0_put (d + 7) K 61 [some (xR oR), some (xI p), some (xI i), some (xI j), some (xI k), some (xI m), some (xR (pO p)), none] [] G 4 184 := by
  have hof := hw.1
  unfold off at hof
  have hs0 := hs
  obtain ⟨i0, i1, j0, j1⟩ := hs
  have hrw := (hP.2 p p0 p1).2 i i0 i1
  have hrr := hR.2 _ hrw.1 hrw.2
  have hm0 := hR.1
  have hK1 := hK.1
  refine w_aload_n (pc' := 62) dX0_put_61 rfl rfl ?_
  refine w_aload (pc' := 64) dX0_put_62 rfl rfl ?_
  refine w_iload_n (pc' := 65) dX0_put_64 rfl rfl ?_
  -- at 65: .invokevirtual 177
  refine w_callV2 (pc' := 68) (mc := 4) (ms := 184) dX0_put_65 rfl tX0_own q499 rfl rfl qs9 q497 hof rfl (Nat.le_of_ble_eq_true rfl) (Nat.le_of_ble_eq_true rfl) ?_
  refine c_X0_own hw hR hP p0 p1 i0 i1 (fun G1 t1 r1 => w_p1 ?_)
  obtain ⟨pl, cl, N, b, rg⟩ := w
  obtain ⟨hx1, hx2, hx3, hx4, -⟩ := Rx_un r1
  have rr := row_own hm0.1 hx3
  have fin : ∀ mo, k = cdat (pcel σ k m) 0 → mo = cdat (pcel σ k m) 1 → 0 = cdat (pcel σ k m) 2 → (0 ≤ mo ∧ mo < 8) → tvW mX0_put (d + 7) K 107 [some (xR oR), some (xI p), some (xI i), some (xI j), some (xI k), some (xI m), some (xR (pO p)), some (xR (rO (σ.1 9)))] [xI mo, xI k, xI (j - σ.2 7 (rw_ σ p i)), xR (rO (σ.1 9))] G1 0 0 := by
    intro mo e1 e2 e3 hmo
    refine w_iconst (pc' := 108) dX0_put_107 rfl (by decide) ?_
    -- at 108: .invokevirtual 184
    refine w_callV4 (pc' := 111) (mc := 0) (ms := 0) dX0_put_108 rfl tX6_set q521 rfl rfl q522 q520 rr.1 rfl (Nat.le_of_ble_eq_true rfl) (Nat.le_of_ble_eq_true rfl) ?_
    refine c_X6_set rr ⟨by omega, by omega⟩ e1 e2 e3 ⟨by omega, by omega⟩ ⟨by omega, by omega⟩ ⟨by omega, by omega⟩ (fun G2 f2 r2 => w_p0 ?_)
    refine w_iconst (pc' := 112) dX0_put_111 rfl (by decide) ?_
    -- at 112: .ireturn
    refine w_zreturn dX0_put_112 rfl (by first | exact Or.inl rfl | exact Or.inr rfl | omega) ?_
    exact h G2 (fun q hq => (f2 q (by omega)).trans (t1 q hq)) ⟨_, Rx_oset r1 hR hP p0 p1 hs0 hm6 f2 r2⟩
  refine w_ast7 (pc' := 70) dX0_put_68 rfl rfl ?_
  refine w_aload (pc' := 72) dX0_put_70 rfl rfl ?_
  refine w_iload_n (pc' := 73) dX0_put_72 rfl rfl ?_
  refine w_aload (pc' := 75) dX0_put_73 rfl rfl ?_
  refine w_get 3 (pc' := 78) dX0_put_75 rfl fX0_181_5 rr.1 rfl ?_
  refine w_isub (pc' := 79) dX0_put_78 rfl ⟨by first | omega | (simp (decide := true) only [au_1, nu_2, au_lt, nu_lt, aw_e, nw_e, au_s, au_n, nu_s, nu_n, au_au, nu_nu, au_nu]; omega), by first | omega | (simp (decide := true) only [au_1, nu_2, au_lt, nu_lt, aw_e, nw_e, au_s, au_n, nu_s, nu_n, au_au, nu_nu, au_nu]; omega)⟩ ?_
  refine w_iload (pc' := 81) dX0_put_79 rfl rfl ?_
  refine w_iload (pc' := 83) dX0_put_81 rfl rfl ?_
  -- at 83: .ifCond .ge 7
  refine w_if_ge (pc' := 86) (tgt := 90) dX0_put_83 rfl rfl (fun g => ?_) (fun g => ?_)
  · obtain ⟨⟨k0, k1⟩, m0, m1⟩ : (0 ≤ k ∧ k < σ.1 5) ∧ 0 ≤ m ∧ m < 8 := by omega
    obtain ⟨-, tT, -, -⟩ := hK.2 k k0 k1
    have hl := lie_r (mir := σ.2 3 k) tT m0 m1
    have tl : tle G1 (kO k) (kC k) (σ.2 0 k) (σ.2 1 k) (σ.2 2 k) (σ.2 3 k) (σ.2 4 k) := hx2.2 k k0 k1
    have kl : lst G1 (-1) (σ.1 5) (fun k => some (kO k)) := hx2.1
    obtain ⟨lf, hlO⟩ := lst_o kl
    have hof1 := hx1
    unfold off at hof1
    have ep : pcel σ k m = cel k (lie (σ.2 3 k) (σ.2 1 k) m) 0 := if_neg (by omega)
    obtain ⟨c0, c1, c2⟩ := cd_cel (s := 0) (show 0 ≤ k ∧ k < 40 by omega) hl
    refine w_aload_n (pc' := 91) dX0_put_90 rfl rfl ?_
    refine w_get 0 (pc' := 94) dX0_put_91 rfl fX0_10_0 hof1 rfl ?_
    refine w_iload (pc' := 96) dX0_put_94 rfl rfl ?_
    -- at 96: .invokevirtual 58
    refine w_callV1 (pc' := 99) (mc := 0) (ms := 0) dX0_put_96 rfl tJ2_get q211 rfl rfl q212 q210 hlO rfl (Nat.le_of_ble_eq_true rfl) (Nat.le_of_ble_eq_true rfl) ?_
    refine c_J2_get kl ⟨k0, k1⟩ ?_
    refine w_p1 ?_
    refine w_cast (pc' := 102) dX0_put_99 rfl tl.1 rfl q224 ?_
    refine w_iload (pc' := 104) dX0_put_102 rfl rfl ?_
    -- at 104: .invokevirtual 109
    refine w_callV1 (pc' := 107) (mc := 0) (ms := 0) dX0_put_104 rfl tX2_lies q327 rfl rfl q328 q326 tl.1 rfl (Nat.le_of_ble_eq_true rfl) (Nat.le_of_ble_eq_true rfl) ?_
    refine c_X2_lies tl tT ⟨m0, m1⟩ ?_
    refine w_p1 ?_
    exact fin _ (by rw [ep, c0]) (by rw [ep, c1]) (by rw [ep, c2]) hl
  · have ek : k = -1 := by omega
    have ep : pcel σ k m = 0 := if_pos ek
    refine w_iconst (pc' := 87) dX0_put_86 rfl (by decide) ?_
    refine w_goto (tgt := 107) dX0_put_87 rfl ?_
    -- at 107: .iconst 0
    exact fin 0 (by rw [ep]; exact ek) (by rw [ep]; rfl) (by rw [ep]; rfl) ⟨by omega, by omega⟩
theorem c_X0_put {p i j k m : Int} (hw : Rx σ w G) (hK : kok σ) (hR : rok σ) (hP : pok σ) (hU : uok σ) (h1 : putOk σ p i j k m ∧ σ.1 9 < 6000 → ∀ G', tfr G G' → Rel (sSet σ p i j (pcel σ k m)) G' → K (some (xI 1)) G') (h0 : ¬ (putOk σ p i j k m ∧ σ.1 9 < 6000) → K (some (xI 0)) G) : tvW mX0_put (d + 7) K 0 [some (xR oR), some (xI p), some (xI i), some (xI j), some (xI k), some (xI m), none, none] [] G 7 249 := by
  have hof := hw.1
  unfold off at hof
  unfold putOk at h1 h0
  have bad : ∀ o, ¬ (((0 ≤ p ∧ p < σ.1 12) ∧ hs_ σ p i j ∧ (k = -1 ∨ (0 ≤ k ∧ k < σ.1 5) ∧ 0 ≤ m ∧ m < 8)) ∧ σ.1 9 < 6000) → tvW mX0_put (d + 7) K 53 [some (xR oR), some (xI p), some (xI i), some (xI j), some (xI k), some (xI m), some (xO o), none] [] G 7 249 := by
    intro o q
    refine w_iconst (pc' := 54) dX0_put_53 rfl (by decide) ?_
    -- at 54: .ireturn
    refine w_zreturn dX0_put_54 rfl (by first | exact Or.inl rfl | exact Or.inr rfl | omega) ?_
    exact h0 q
  refine w_aload_n (pc' := 1) dX0_put_0 rfl rfl ?_
  refine w_iload_n (pc' := 2) dX0_put_1 rfl rfl ?_
  -- at 2: .invokevirtual 150
  refine w_callV1 (pc' := 5) (mc := 0) (ms := 0) dX0_put_2 rfl tX0_pattern_2 q375 rfl rfl qs4 q373 hof rfl (Nat.le_of_ble_eq_true rfl) (Nat.le_of_ble_eq_true rfl) ?_
  refine c_X0_pattern_2 hw (fun p0 p1 => w_p1 ?_) (fun g => w_p1 ?_)
  · obtain ⟨hPo, hPl⟩ := hw.2.2.2.1.2 p p0 p1
    have hpr := Rx_prw hw hR hP p0 p1
    refine w_ast6 (pc' := 7) dX0_put_5 rfl rfl ?_
    refine w_aload (pc' := 9) dX0_put_7 rfl rfl ?_
    -- at 9: .ifnull 44
    refine w_ifnull (pc' := 12) (tgt := 53) dX0_put_9 rfl rfl (fun h_ => False.elim (nomatch h_)) (fun h_ => ?_)
    refine w_aload (pc' := 14) dX0_put_12 rfl rfl ?_
    refine w_iload_n (pc' := 15) dX0_put_14 rfl rfl ?_
    refine w_iload_n (pc' := 16) dX0_put_15 rfl rfl ?_
    -- at 16: .invokevirtual 173
    refine w_callV2 (pc' := 19) (mc := 0) (ms := 0) dX0_put_16 rfl tX4_at q489 rfl rfl q490 q488 hPo rfl (Nat.le_of_ble_eq_true rfl) (Nat.le_of_ble_eq_true rfl) ?_
    refine c_X4_at hPo hpr (fun i0 j0 j1 => w_p1 ?_) (fun g => w_p1 ?_)
    · have hs : hs_ σ p i j := hs_iff.mpr ⟨i0, j0, j1⟩
      refine w_ifnull (pc' := 22) (tgt := 53) dX0_put_19 rfl rfl (fun h_ => False.elim (nomatch h_)) (fun h_ => ?_)
      have go : (k = -1 ∨ (0 ≤ k ∧ k < σ.1 5) ∧ 0 ≤ m ∧ m < 8) → tvW mX0_put (d + 7) K 45 [some (xR oR), some (xI p), some (xI i), some (xI j), some (xI k), some (xI m), some (xR (pO p)), none] [] G 7 249 := by
        intro hk
        refine w_aload_n (pc' := 46) dX0_put_45 rfl rfl ?_
        refine w_iconst (pc' := 47) dX0_put_46 rfl (by decide) ?_
        -- at 47: .invokevirtual 154
        refine w_callV1 (pc' := 50) (mc := 0) (ms := 0) dX0_put_47 rfl tX0_canMake q379 rfl rfl qs5 q377 hof rfl (Nat.le_of_ble_eq_true rfl) (Nat.le_of_ble_eq_true rfl) ?_
        refine c_X0_canMake hw hR (fun c => w_p1 ?_) (fun c => w_p1 ?_)
        · refine w_if_ne (pc' := 53) (tgt := 55) dX0_put_50 rfl rfl (fun h_ => ?_) (fun h_ => False.elim (by first | omega | (simp (decide := true) only [au_1, nu_2, au_lt, nu_lt, aw_e, nw_e, au_s, au_n, nu_s, nu_n, au_au, nu_nu, au_nu] at h_; omega)))
          refine w_aload_n (pc' := 56) dX0_put_55 rfl rfl ?_
          refine w_aload (pc' := 58) dX0_put_56 rfl rfl ?_
          -- at 58: .invokevirtual 157
          refine w_callV1 (pc' := 61) (mc := 3) (ms := 65) dX0_put_58 rfl tX0_keep q383 rfl rfl qs6 q381 hof rfl (Nat.le_of_ble_eq_true rfl) (Nat.le_of_ble_eq_true rfl) ?_
          refine c_X0_keep hw hR hP hU p0 p1 (fun G1 t1 r1 => w_p0 ?_)
          obtain ⟨w1, r1⟩ := r1
          refine c_X0_put_t (σ := sKeep σ p) r1 (kok_kp hK) (rok_kp hR) (pok_kp hP) p0 p1 hs ?_ hk (fun G2 t2 r2 => ?_)
          · show σ.1 9 < 6000
            omega
          · exact h1 ⟨⟨⟨p0, p1⟩, hs, hk⟩, by omega⟩ G2 (fun q hq => (t2 q hq).trans (t1 q hq)) r2
        · refine w_if_ne (pc' := 53) (tgt := 55) dX0_put_50 rfl rfl (fun h_ => False.elim (by first | omega | (simp (decide := true) only [au_1, nu_2, au_lt, nu_lt, aw_e, nw_e, au_s, au_n, nu_s, nu_n, au_au, nu_nu, au_nu] at h_; omega))) (fun h_ => ?_)
          exact bad _ (fun q => c (by have := q.2; omega))
      refine w_iload (pc' := 24) dX0_put_22 rfl rfl ?_
      refine w_iconst (pc' := 25) dX0_put_24 rfl (by decide) ?_
      -- at 25: .if_icmp .eq 20
      refine w_icmp_eq (pc' := 28) (tgt := 45) dX0_put_25 rfl rfl (fun e => ?_) (fun e => ?_)
      · exact go (Or.inl e)
      · refine w_aload_n (pc' := 29) dX0_put_28 rfl rfl ?_
        refine w_iload (pc' := 31) dX0_put_29 rfl rfl ?_
        -- at 31: .invokevirtual 102
        refine w_callV1 (pc' := 34) (mc := 0) (ms := 0) dX0_put_31 rfl tX0_isKind q321 rfl rfl qs3 q319 hof rfl (Nat.le_of_ble_eq_true rfl) (Nat.le_of_ble_eq_true rfl) ?_
        refine c_X0_isKind hw (fun k0 k1 => w_p1 ?_) (fun g => w_p1 ?_)
        · refine w_if_eq (pc' := 37) (tgt := 53) dX0_put_34 rfl rfl (fun h_ => False.elim (by first | omega | (simp (decide := true) only [au_1, nu_2, au_lt, nu_lt, aw_e, nw_e, au_s, au_n, nu_s, nu_n, au_au, nu_nu, au_nu] at h_; omega))) (fun h_ => ?_)
          refine w_iload (pc' := 39) dX0_put_37 rfl rfl ?_
          -- at 39: .invokestatic 106
          refine w_callS1 (pc' := 42) (mc := 0) (ms := 0) dX0_put_39 rfl tX0_isMove q324 q323 rfl (Nat.le_of_ble_eq_true rfl) (Nat.le_of_ble_eq_true rfl) ?_
          refine c_X0_isMove (fun m0 m1 => w_p1 ?_) (fun g => w_p1 ?_)
          · refine w_if_eq (pc' := 45) (tgt := 53) dX0_put_42 rfl rfl (fun h_ => False.elim (by first | omega | (simp (decide := true) only [au_1, nu_2, au_lt, nu_lt, aw_e, nw_e, au_s, au_n, nu_s, nu_n, au_au, nu_nu, au_nu] at h_; omega))) (fun h_ => ?_)
            exact go (Or.inr ⟨⟨k0, k1⟩, m0, m1⟩)
          · refine w_if_eq (pc' := 45) (tgt := 53) dX0_put_42 rfl rfl (fun h_ => ?_) (fun h_ => False.elim (by first | omega | (simp (decide := true) only [au_1, nu_2, au_lt, nu_lt, aw_e, nw_e, au_s, au_n, nu_s, nu_n, au_au, nu_nu, au_nu] at h_; omega)))
            exact bad _ (fun q => q.1.2.2.elim e (fun z => g z.2))
        · refine w_if_eq (pc' := 37) (tgt := 53) dX0_put_34 rfl rfl (fun h_ => ?_) (fun h_ => False.elim (by first | omega | (simp (decide := true) only [au_1, nu_2, au_lt, nu_lt, aw_e, nw_e, au_s, au_n, nu_s, nu_n, au_au, nu_nu, au_nu] at h_; omega)))
          exact bad _ (fun q => q.1.2.2.elim e (fun z => g z.1))
    · refine w_ifnull (pc' := 22) (tgt := 53) dX0_put_19 rfl rfl (fun h_ => ?_) (fun h_ => False.elim (h_ rfl))
      exact bad _ (fun q => g (hs_iff.mp q.1.2.1))
  · refine w_ast6 (pc' := 7) dX0_put_5 rfl rfl ?_
    refine w_aload (pc' := 9) dX0_put_7 rfl rfl ?_
    -- at 9: .ifnull 44
    refine w_ifnull (pc' := 12) (tgt := 53) dX0_put_9 rfl rfl (fun h_ => ?_) (fun h_ => False.elim (h_ rfl))
    exact bad _ (fun q => g q.1.1)
theorem c_X0_shade_t {p i j s : Int} (hw : Rx σ w G) (hK : kok σ) (hR : rok σ) (hP : pok σ) (p0 : 0 ≤ p) (p1 : p < σ.1 12) (hs : hs_ σ p i j) (hc : ca_ σ p i j ≠ 0) (hm6 : σ.1 9 < 6000) (h : ∀ G', tfr G G' → Rel (au (sOwn σ p i) 8 (iset ((sOwn σ p i).2 8) (60 * σ.1 9 + j - σ.2 7 (rw_ σ p i)) (cel (kOf (ca_ σ p i j)) (mOf (ca_ σ p i j)) (iS s)))) G' → K (some (xI 1)) G') : tvW mX0_shade (d + 7) K 62 [some (xR oR), some (xI p), some (xI i), some (xI j), some (xI s), some (xR (pO p)), some (xR (rO (rw_ σ p i)))] [] G 4 184 := by
  have hof := hw.1
  unfold off at hof
  have hs0 := hs
  have hci := ca_ok hR hP ⟨p0, p1⟩ hs
  have hK1 := hK.1
  obtain ⟨i0, i1, j0, j1⟩ := hs
  have hrw := (hP.2 p p0 p1).2 i i0 i1
  have hrr := hR.2 _ hrw.1 hrw.2
  have hm0 := hR.1
  refine w_aload_n (pc' := 63) dX0_shade_62 rfl rfl ?_
  refine w_aload (pc' := 65) dX0_shade_63 rfl rfl ?_
  refine w_iload_n (pc' := 66) dX0_shade_65 rfl rfl ?_
  -- at 66: .invokevirtual 177
  refine w_callV2 (pc' := 69) (mc := 4) (ms := 184) dX0_shade_66 rfl tX0_own q499 rfl rfl qs9 q497 hof rfl (Nat.le_of_ble_eq_true rfl) (Nat.le_of_ble_eq_true rfl) ?_
  refine c_X0_own hw hR hP p0 p1 i0 i1 (fun G1 t1 r1 => w_p1 ?_)
  obtain ⟨pl, cl, N, b, rg⟩ := w
  obtain ⟨hx1, hx2, hx3, hx4, -⟩ := Rx_un r1
  have rr := row_own hm0.1 hx3
  have ro := hx3 (rw_ σ p i) hrw.1 (show rw_ σ p i < σ.1 9 + 1 by omega)
  have eo : (sOwn σ p i).2 7 (rw_ σ p i) = σ.2 7 (rw_ σ p i) := if_neg (by omega)
  have ro := ro.1
  rw [eo] at ro
  obtain ⟨rO1, n, fk, fm, fs, hn, ak, am, as, hC⟩ := rr
  have hx := hC (j - σ.2 7 (rw_ σ p i)) (by omega) (by omega)
  have ec : (sOwn σ p i).2 8 (60 * σ.1 9 + (j - σ.2 7 (rw_ σ p i))) = ca_ σ p i j := by
    show rfill (σ.2 8) (60 * σ.1 9) (σ.2 6 (rw_ σ p i)) (fun q => σ.2 8 (q - 60 * σ.1 9 + 60 * rw_ σ p i)) (60 * σ.1 9 + (j - σ.2 7 (rw_ σ p i))) = _
    unfold rfill ca_
    rw [if_pos (by omega)]
    simp only []
    rw [show 60 * σ.1 9 + (j - σ.2 7 (rw_ σ p i)) - 60 * σ.1 9 + 60 * rw_ σ p i = 60 * rw_ σ p i + j - σ.2 7 (rw_ σ p i) by omega]
  simp only [] at hx
  rw [ec] at hx
  obtain ⟨n0, n1, n2⟩ := cd_n hc
  have hk := isC_k hci hc
  obtain ⟨c0, c1, c2⟩ := cd_cel (s := iS s) (show 0 ≤ kOf (ca_ σ p i j) ∧ kOf (ca_ σ p i j) < 40 by omega) (mOf_r (c := ca_ σ p i j))
  refine w_get 2 (pc' := 72) dX0_shade_69 rfl fX0_190_5 rO1 rfl ?_
  refine w_iload_n (pc' := 73) dX0_shade_72 rfl rfl ?_
  refine w_aload (pc' := 75) dX0_shade_73 rfl rfl ?_
  refine w_get 3 (pc' := 78) dX0_shade_75 rfl fX0_181_5 ro rfl ?_
  refine w_isub (pc' := 79) dX0_shade_78 rfl ⟨by first | omega | (simp (decide := true) only [au_1, nu_2, au_lt, nu_lt, aw_e, nw_e, au_s, au_n, nu_s, nu_n, au_au, nu_nu, au_nu]; omega), by first | omega | (simp (decide := true) only [au_1, nu_2, au_lt, nu_lt, aw_e, nw_e, au_s, au_n, nu_s, nu_n, au_au, nu_nu, au_nu]; omega)⟩ ?_
  refine w_iload (pc' := 81) dX0_shade_79 rfl rfl ?_
  refine w_i2s (pc' := 82) dX0_shade_81 rfl ?_
  refine w_sast (pc' := 83) dX0_shade_82 rfl as (by omega) (by omega) (iS_r s) ?_
  -- at 83: .iconst 1
  refine w_upd (fun G2 a2 f2 => ?_)
  have rO1 := (f2 _ (rl_ne (by omega))).trans rO1
  have ak := (f2 _ (rl_ne (by omega))).trans ak
  have am := (f2 _ (rl_ne (by omega))).trans am
  refine w_iconst (pc' := 84) dX0_shade_83 rfl (by decide) ?_
  -- at 84: .ireturn
  refine w_zreturn dX0_shade_84 rfl (by first | exact Or.inl rfl | exact Or.inr rfl | omega) ?_
  have fr : rfr (σ.1 9) G1 G2 := fun q hq => f2 q (fun z => hq (by rw [z]; exact ⟨by simp only []; omega, rfl⟩))
  refine h G2 (fun q hq => (fr q (by omega)).trans (t1 q hq)) ⟨_, Rx_oset r1 hR hP p0 p1 hs0 hm6 fr ⟨rO1, n, fk, fm, _, hn, ak, am, a2, fun x x0 x1 => ?_⟩⟩
  unfold iset
  by_cases e : x = j - σ.2 7 (rw_ σ p i)
  · rw [if_pos e, if_pos e, c0, c1, c2, e, hx.1, hx.2.1, n0, n1]
    exact ⟨rfl, rfl, rfl⟩
  · rw [if_neg e, if_neg e]
    exact hC x x0 x1
theorem c_X0_shade {p i j s : Int} (hw : Rx σ w G) (hK : kok σ) (hR : rok σ) (hP : pok σ) (hU : uok σ) (h1 : shdOk σ p i j → ∀ G', tfr G G' → Rel (sSet σ p i j (cel (kOf (ca_ σ p i j)) (mOf (ca_ σ p i j)) (iS s))) G' → K (some (xI 1)) G') (h0 : ¬ shdOk σ p i j → K (some (xI 0)) G) : tvW mX0_shade (d + 7) K 0 [some (xR oR), some (xI p), some (xI i), some (xI j), some (xI s), none, none] [] G 7 249 := by
  have hof := hw.1
  unfold off at hof
  unfold shdOk at h1 h0
  have bad : ∀ o o', ¬ ((0 ≤ p ∧ p < σ.1 12) ∧ hs_ σ p i j ∧ ca_ σ p i j ≠ 0 ∧ σ.1 9 < 6000) → tvW mX0_shade (d + 7) K 54 [some (xR oR), some (xI p), some (xI i), some (xI j), some (xI s), some (xO o), some (xO o')] [] G 7 249 := by
    intro o o' q
    refine w_iconst (pc' := 55) dX0_shade_54 rfl (by decide) ?_
    -- at 55: .ireturn
    refine w_zreturn dX0_shade_55 rfl (by first | exact Or.inl rfl | exact Or.inr rfl | omega) ?_
    exact h0 q
  refine w_aload_n (pc' := 1) dX0_shade_0 rfl rfl ?_
  refine w_iload_n (pc' := 2) dX0_shade_1 rfl rfl ?_
  -- at 2: .invokevirtual 150
  refine w_callV1 (pc' := 5) (mc := 0) (ms := 0) dX0_shade_2 rfl tX0_pattern_2 q375 rfl rfl qs4 q373 hof rfl (Nat.le_of_ble_eq_true rfl) (Nat.le_of_ble_eq_true rfl) ?_
  refine c_X0_pattern_2 hw (fun p0 p1 => w_p1 ?_) (fun g => w_p1 ?_)
  · obtain ⟨hPo, hPl⟩ := hw.2.2.2.1.2 p p0 p1
    have hpr := Rx_prw hw hR hP p0 p1
    refine w_ast5 (pc' := 7) dX0_shade_5 rfl rfl ?_
    refine w_aload (pc' := 9) dX0_shade_7 rfl rfl ?_
    -- at 9: .ifnonnull 7
    refine w_ifnonnull (pc' := 12) (tgt := 16) dX0_shade_9 rfl rfl (fun h_ => ?_) (fun h_ => False.elim (nomatch h_))
    refine w_aload (pc' := 18) dX0_shade_16 rfl rfl ?_
    refine w_iload_n (pc' := 19) dX0_shade_18 rfl rfl ?_
    refine w_iload_n (pc' := 20) dX0_shade_19 rfl rfl ?_
    -- at 20: .invokevirtual 173
    refine w_callV2 (pc' := 23) (mc := 0) (ms := 0) dX0_shade_20 rfl tX4_at q489 rfl rfl q490 q488 hPo rfl (Nat.le_of_ble_eq_true rfl) (Nat.le_of_ble_eq_true rfl) ?_
    refine c_X4_at hPo hpr (fun i0 j0 j1 => w_p1 ?_) (fun g => w_p1 ?_)
    · have hs : hs_ σ p i j := hs_iff.mpr ⟨i0, j0, j1⟩
      have hci := ca_ok hR hP ⟨p0, p1⟩ hs
      obtain ⟨hr, hL, hO⟩ := hpr.2 i i0.1 i0.2
      have j0 : σ.2 7 (rw_ σ p i) ≤ j := j0
      have j1 : j < σ.2 7 (rw_ σ p i) + σ.2 6 (rw_ σ p i) := j1
      obtain ⟨n, fk, fm, fs, hn, ak, am, as, ck, cm, cs⟩ := row_at hr (j := j - σ.2 7 (rw_ σ p i)) (by omega) (by simp only []; omega)
      have e0 : ca_ σ p i j = σ.2 8 (60 * rw_ σ p i + (j - σ.2 7 (rw_ σ p i))) := by unfold ca_; rw [Int.add_sub_assoc]
      have hro := hr.1
      simp only [] at hro hL hO ck cm cs hn
      rw [← e0] at ck
      refine w_ast6 (pc' := 25) dX0_shade_23 rfl rfl ?_
      refine w_aload (pc' := 27) dX0_shade_25 rfl rfl ?_
      -- at 27: .ifnull 27
      refine w_ifnull (pc' := 30) (tgt := 54) dX0_shade_27 rfl rfl (fun h_ => False.elim (nomatch h_)) (fun h_ => ?_)
      refine w_aload (pc' := 32) dX0_shade_30 rfl rfl ?_
      refine w_get 0 (pc' := 35) dX0_shade_32 rfl fX0_187_5 hro rfl ?_
      refine w_iload_n (pc' := 36) dX0_shade_35 rfl rfl ?_
      refine w_aload (pc' := 38) dX0_shade_36 rfl rfl ?_
      refine w_get 3 (pc' := 41) dX0_shade_38 rfl fX0_181_5 hro rfl ?_
      refine w_isub (pc' := 42) dX0_shade_41 rfl ⟨by first | omega | (simp (decide := true) only [au_1, nu_2, au_lt, nu_lt, aw_e, nw_e, au_s, au_n, nu_s, nu_n, au_au, nu_nu, au_nu]; omega), by first | omega | (simp (decide := true) only [au_1, nu_2, au_lt, nu_lt, aw_e, nw_e, au_s, au_n, nu_s, nu_n, au_au, nu_nu, au_nu]; omega)⟩ ?_
      refine w_bald (pc' := 43) dX0_shade_42 rfl ak (by omega) (by omega) ?_
      -- at 43: .ifCond .lt 11
      rw [ck]
      refine w_if_lt (pc' := 46) (tgt := 54) dX0_shade_43 rfl rfl (fun z => ?_) (fun z => ?_)
      · exact bad _ _ (fun q => q.2.2.1 ((cd_lt hci).mp z))
      · have hc : ca_ σ p i j ≠ 0 := fun y => by have := (cd_lt hci).mpr y; omega
        refine w_aload_n (pc' := 47) dX0_shade_46 rfl rfl ?_
        refine w_iconst (pc' := 48) dX0_shade_47 rfl (by decide) ?_
        -- at 48: .invokevirtual 154
        refine w_callV1 (pc' := 51) (mc := 0) (ms := 0) dX0_shade_48 rfl tX0_canMake q379 rfl rfl qs5 q377 hof rfl (Nat.le_of_ble_eq_true rfl) (Nat.le_of_ble_eq_true rfl) ?_
        refine c_X0_canMake hw hR (fun c => w_p1 ?_) (fun c => w_p1 ?_)
        · refine w_if_ne (pc' := 54) (tgt := 56) dX0_shade_51 rfl rfl (fun h_ => ?_) (fun h_ => False.elim (by first | omega | (simp (decide := true) only [au_1, nu_2, au_lt, nu_lt, aw_e, nw_e, au_s, au_n, nu_s, nu_n, au_au, nu_nu, au_nu] at h_; omega)))
          refine w_aload_n (pc' := 57) dX0_shade_56 rfl rfl ?_
          refine w_aload (pc' := 59) dX0_shade_57 rfl rfl ?_
          -- at 59: .invokevirtual 157
          refine w_callV1 (pc' := 62) (mc := 3) (ms := 65) dX0_shade_59 rfl tX0_keep q383 rfl rfl qs6 q381 hof rfl (Nat.le_of_ble_eq_true rfl) (Nat.le_of_ble_eq_true rfl) ?_
          refine c_X0_keep hw hR hP hU p0 p1 (fun G1 t1 r1 => w_p0 ?_)
          obtain ⟨w1, r1⟩ := r1
          refine c_X0_shade_t (σ := sKeep σ p) r1 (kok_kp hK) (rok_kp hR) (pok_kp hP) p0 p1 hs hc ?_ (fun G2 t2 r2 => ?_)
          · show σ.1 9 < 6000
            omega
          · exact h1 ⟨⟨p0, p1⟩, hs, hc, by omega⟩ G2 (fun q hq => (t2 q hq).trans (t1 q hq)) r2
        · refine w_if_ne (pc' := 54) (tgt := 56) dX0_shade_51 rfl rfl (fun h_ => False.elim (by first | omega | (simp (decide := true) only [au_1, nu_2, au_lt, nu_lt, aw_e, nw_e, au_s, au_n, nu_s, nu_n, au_au, nu_nu, au_nu] at h_; omega))) (fun h_ => ?_)
          exact bad _ _ (fun q => c (by have := q.2.2.2; omega))
    · refine w_ast6 (pc' := 25) dX0_shade_23 rfl rfl ?_
      refine w_aload (pc' := 27) dX0_shade_25 rfl rfl ?_
      -- at 27: .ifnull 27
      refine w_ifnull (pc' := 30) (tgt := 54) dX0_shade_27 rfl rfl (fun h_ => ?_) (fun h_ => False.elim (h_ rfl))
      exact bad _ _ (fun q => g (hs_iff.mp q.2.1))
  · refine w_ast5 (pc' := 7) dX0_shade_5 rfl rfl ?_
    refine w_aload (pc' := 9) dX0_shade_7 rfl rfl ?_
    -- at 9: .ifnonnull 7
    refine w_ifnonnull (pc' := 12) (tgt := 16) dX0_shade_9 rfl rfl (fun h_ => False.elim (h_ rfl)) (fun h_ => ?_)
    refine w_null (pc' := 13) dX0_shade_12 rfl ?_
    refine w_goto (tgt := 23) dX0_shade_13 rfl ?_
    refine w_ast6 (pc' := 25) dX0_shade_23 rfl rfl ?_
    refine w_aload (pc' := 27) dX0_shade_25 rfl rfl ?_
    -- at 27: .ifnull 27
    refine w_ifnull (pc' := 30) (tgt := 54) dX0_shade_27 rfl rfl (fun h_ => ?_) (fun h_ => False.elim (h_ rfl))
    exact bad _ none (fun q => g q.1)
end
