set_option maxRecDepth 10000
section
variable {d : Nat} {K : Option XV → GH → Prop} {G0 G : GH} {bc bs : Nat} {σ : MS} {w : RW}
theorem c_X0_fit {q q' l l' o o' x z e : Int} {C C' : Int → Int} (hw : Rx σ w G) (hK : kok σ) (hr : row G q l o C) (hr' : row G q' l' o' C') (x0 : 0 ≤ x) (x1 : x < l) (z0 : 0 ≤ z) (z1 : z < l') (c1 : isC (σ.1 5) (C x)) (c2 : isC (σ.1 5) (C' z)) (he : 0 ≤ e ∧ e < 4) (h1 : ftt σ (C x) (C' z) e → K (some (xI 1)) G) (h0 : ¬ ftt σ (C x) (C' z) e → K (some (xI 0)) G) : tvW mX0_fit (d + 3) K 0 [some (xR oR), some (xR (rO q)), some (xI x), some (xR (rO q')), some (xI z), some (xI e), none, none] [] G bc bs := by
  obtain ⟨n, fk, fm, fs, hn, ak, am, as, ck, cm, cs⟩ := row_at hr x0 x1
  obtain ⟨n', fk', fm', fs', hn', ak', am', as', ck', cm', cs'⟩ := row_at hr' z0 z1
  have hO := hr.1
  have hO' := hr'.1
  have hof := hw.1
  unfold off at hof
  obtain ⟨lf, hl⟩ := lst_o hw.2.1.1
  have e3 := bAnd_3 (e + 2)
  have yes : ftt σ (C x) (C' z) e → tvW mX0_fit (d + 3) K 81 [some (xR oR), some (xR (rO q)), some (xI x), some (xR (rO q')), some (xI z), some (xI e), some (xI (cdat (C x) 0)), some (xI (cdat (C' z) 0))] [] G bc bs := by
    intro g
    refine w_iconst (pc' := 82) dX0_fit_81 rfl (by decide) ?_
    refine w_goto (tgt := 86) dX0_fit_82 rfl ?_
    -- at 86: .ireturn
    refine w_zreturn dX0_fit_86 rfl (by first | exact Or.inl rfl | exact Or.inr rfl | omega) ?_
    exact h1 g
  refine w_aload_n (pc' := 1) dX0_fit_0 rfl rfl ?_
  refine w_get 0 (pc' := 4) dX0_fit_1 rfl fX0_187_5 hO rfl ?_
  refine w_iload_n (pc' := 5) dX0_fit_4 rfl rfl ?_
  refine w_bald (pc' := 6) dX0_fit_5 rfl ak (by omega) (by omega) ?_
  -- at 6: .istore 6
  rw [ck]
  refine w_ist6 (pc' := 8) dX0_fit_6 rfl rfl ?_
  refine w_aload_n (pc' := 9) dX0_fit_8 rfl rfl ?_
  refine w_get 0 (pc' := 12) dX0_fit_9 rfl fX0_187_5 hO' rfl ?_
  refine w_iload (pc' := 14) dX0_fit_12 rfl rfl ?_
  refine w_bald (pc' := 15) dX0_fit_14 rfl ak' (by omega) (by omega) ?_
  -- at 15: .istore 7
  rw [ck']
  refine w_ist7 (pc' := 17) dX0_fit_15 rfl rfl ?_
  refine w_iload (pc' := 19) dX0_fit_17 rfl rfl ?_
  -- at 19: .ifCond .lt 62
  refine w_if_lt (pc' := 22) (tgt := 81) dX0_fit_19 rfl rfl (fun g => ?_) (fun g => ?_)
  · exact yes (Or.inl ((cd_lt c1).mp g))
  · refine w_iload (pc' := 24) dX0_fit_22 rfl rfl ?_
    -- at 24: .ifCond .lt 57
    refine w_if_lt (pc' := 27) (tgt := 81) dX0_fit_24 rfl rfl (fun g2 => ?_) (fun g2 => ?_)
    · exact yes (Or.inr (Or.inl ((cd_lt c2).mp g2)))
    · have n1 : C x ≠ 0 := fun z => by have := (cd_lt c1).mpr z; omega
      have n2 : C' z ≠ 0 := fun y => by have := (cd_lt c2).mpr y; omega
      obtain ⟨e1, e2, -⟩ := cd_n n1
      obtain ⟨e1', e2', -⟩ := cd_n n2
      have r1 := isC_k c1 n1
      have r2 := isC_k c2 n2
      have t1 := hw.2.1.2 _ r1.1 r1.2
      have t2 := hw.2.1.2 _ r2.1 r2.2
      have hk1 := hK.1
      rw [e1, e1']
      refine w_aload_n (pc' := 28) dX0_fit_27 rfl rfl ?_
      refine w_get 0 (pc' := 31) dX0_fit_28 rfl fX0_10_0 hof rfl ?_
      refine w_iload (pc' := 33) dX0_fit_31 rfl rfl ?_
      -- at 33: .invokevirtual 58
      refine w_callV1 (pc' := 36) (mc := 0) (ms := 0) dX0_fit_33 rfl tJ2_get q211 rfl rfl q212 q210 hl rfl (Nat.le_of_ble_eq_true rfl) (Nat.le_of_ble_eq_true rfl) ?_
      refine c_J2_get hw.2.1.1 r1 ?_
      refine w_p1 ?_
      refine w_cast (pc' := 39) dX0_fit_36 rfl t1.1 rfl q224 ?_
      refine w_aload_n (pc' := 40) dX0_fit_39 rfl rfl ?_
      refine w_get 1 (pc' := 43) dX0_fit_40 rfl fX0_194_5 hO rfl ?_
      refine w_iload_n (pc' := 44) dX0_fit_43 rfl rfl ?_
      refine w_bald (pc' := 45) dX0_fit_44 rfl am (by omega) (by omega) ?_
      -- at 45: .iload 5
      rw [cm, e2]
      refine w_iload (pc' := 47) dX0_fit_45 rfl rfl ?_
      -- at 47: .invokevirtual 113
      refine w_callV2 (pc' := 50) (mc := 0) (ms := 0) dX0_fit_47 rfl tX2_colour q334 rfl rfl q335 q333 t1.1 rfl (Nat.le_of_ble_eq_true rfl) (Nat.le_of_ble_eq_true rfl) ?_
      refine c_X2_colour t1 mOf_r he ?_
      refine w_p1 ?_
      refine w_aload_n (pc' := 51) dX0_fit_50 rfl rfl ?_
      refine w_get 0 (pc' := 54) dX0_fit_51 rfl fX0_10_0 hof rfl ?_
      refine w_iload (pc' := 56) dX0_fit_54 rfl rfl ?_
      -- at 56: .invokevirtual 58
      refine w_callV1 (pc' := 59) (mc := 0) (ms := 0) dX0_fit_56 rfl tJ2_get q211 rfl rfl q212 q210 hl rfl (Nat.le_of_ble_eq_true rfl) (Nat.le_of_ble_eq_true rfl) ?_
      refine c_J2_get hw.2.1.1 r2 ?_
      refine w_p1 ?_
      refine w_cast (pc' := 62) dX0_fit_59 rfl t2.1 rfl q224 ?_
      refine w_aload_n (pc' := 63) dX0_fit_62 rfl rfl ?_
      refine w_get 1 (pc' := 66) dX0_fit_63 rfl fX0_194_5 hO' rfl ?_
      refine w_iload (pc' := 68) dX0_fit_66 rfl rfl ?_
      refine w_bald (pc' := 69) dX0_fit_68 rfl am' (by omega) (by omega) ?_
      -- at 69: .iload 5
      rw [cm', e2']
      refine w_iload (pc' := 71) dX0_fit_69 rfl rfl ?_
      refine w_iconst (pc' := 72) dX0_fit_71 rfl (by decide) ?_
      refine w_iadd (pc' := 73) dX0_fit_72 rfl ⟨by first | omega | (simp (decide := true) only [au_1, nu_2, au_lt, nu_lt, aw_e, nw_e, au_s, au_n, nu_s, nu_n, au_au, nu_nu, au_nu]; omega), by first | omega | (simp (decide := true) only [au_1, nu_2, au_lt, nu_lt, aw_e, nw_e, au_s, au_n, nu_s, nu_n, au_au, nu_nu, au_nu]; omega)⟩ ?_
      refine w_iconst (pc' := 74) dX0_fit_73 rfl (by decide) ?_
      refine w_iand (pc' := 75) dX0_fit_74 rfl ?_
      -- at 75: .invokevirtual 113
      rw [e3]
      refine w_callV2 (pc' := 78) (mc := 0) (ms := 0) dX0_fit_75 rfl tX2_colour q334 rfl rfl q335 q333 t2.1 rfl (Nat.le_of_ble_eq_true rfl) (Nat.le_of_ble_eq_true rfl) ?_
      refine c_X2_colour t2 mOf_r ⟨by omega, by omega⟩ ?_
      refine w_p1 ?_
      refine w_icmp_ne (pc' := 81) (tgt := 85) dX0_fit_78 rfl rfl (fun g3 => ?_) (fun g3 => ?_)
      · refine w_iconst (pc' := 86) dX0_fit_85 rfl (by decide) ?_
        -- at 86: .ireturn
        refine w_zreturn dX0_fit_86 rfl (by first | exact Or.inl rfl | exact Or.inr rfl | omega) ?_
        refine h0 ?_
        rintro (q | q | q)
        · exact n1 q
        · exact n2 q
        · exact g3 q
      · rw [e1, e1'] at yes
        exact yes (Or.inr (Or.inr g3))
theorem c_X0_fits {p : Int} (hw : Rx σ w G) (hK : kok σ) (hR : rok σ) (hP : pok σ) (h : K (some (xI (aFits σ p))) G) : tvW mX0_fits (d + 4) K 0 [some (xR oR), some (xI p), none, none, none, none, none, none, none, none, none] [] G bc bs := by
  have hof := hw.1
  unfold off at hof
  unfold aFits at h
  refine w_aload_n (pc' := 1) dX0_fits_0 rfl rfl ?_
  refine w_iload_n (pc' := 2) dX0_fits_1 rfl rfl ?_
  -- at 2: .invokevirtual 150
  refine w_callV1 (pc' := 5) (mc := 0) (ms := 0) dX0_fits_2 rfl tX0_pattern_2 q375 rfl rfl qs4 q373 hof rfl (Nat.le_of_ble_eq_true rfl) (Nat.le_of_ble_eq_true rfl) ?_
  refine c_X0_pattern_2 hw (fun p0 p1 => w_p1 ?_) (fun g => w_p1 ?_)
  · have hp : 0 ≤ p ∧ p < σ.1 12 := ⟨p0, p1⟩
    rw [ic_t hp] at h
    have hM := (hP.2 p hp.1 hp.2).1
    have hp1 := hP.1
    obtain ⟨hPo, -⟩ := hw.2.2.2.1.2 p hp.1 hp.2
    have hpr := Rx_prw hw hR hP hp.1 hp.2
    obtain ⟨lf, hl⟩ := lst_o hpr.1
    refine w_ast2 (pc' := 6) dX0_fits_5 rfl rfl ?_
    refine w_aload_n (pc' := 7) dX0_fits_6 rfl rfl ?_
    -- at 7: .ifnonnull 5
    refine w_ifnonnull (pc' := 10) (tgt := 12) dX0_fits_7 rfl rfl (fun h_ => ?_) (fun h_ => False.elim (nomatch h_))
    refine w_iconst (pc' := 13) dX0_fits_12 rfl (by decide) ?_
    refine w_ist3 (pc' := 14) dX0_fits_13 rfl rfl ?_
    refine w_iconst (pc' := 15) dX0_fits_14 rfl (by decide) ?_
    refine w_ist4 (pc' := 17) dX0_fits_15 rfl rfl ?_
    -- at 17: .iload 4
    refine up (T := fun i => ∀ x4 x5 x6 x7 x8 x9 : Option XV, (∀ i', 0 ≤ i' → i' < i → ∀ k, 0 ≤ k → k < (σ.2 6 (rw_ σ p i')) → ¬ ¬ (frt σ p i' k ∧ fbl σ p i' k)) → tvW mX0_fits (d + 4) K 17 [some (xR oR), some (xI p), some (xR (pO p)), some (xI (sm (fun i => (σ.2 6 (rw_ σ p i))) i)), some (xI i), x4, x5, x6, x7, x8, x9] [] G bc bs) (σ.2 11 p) hM.1 (fun x4 x5 x6 x7 x8 x9 hn => ?_) (fun i i0 i1 ih x4 x5 x6 x7 x8 x9 hn => ?_) _ _ _ _ _ _ (fun i' a b => by omega)
    · rw [fi2_no hn] at h
      refine w_iload (pc' := 19) dX0_fits_17 rfl rfl ?_
      refine w_aload_n (pc' := 20) dX0_fits_19 rfl rfl ?_
      refine w_get 0 (pc' := 23) dX0_fits_20 rfl fX0_140_3 hPo rfl ?_
      -- at 23: .invokevirtual 54
      refine w_callV0 (pc' := 26) (mc := 0) (ms := 0) dX0_fits_23 rfl tJ2_size q207 rfl rfl q208 q206 hl rfl (Nat.le_of_ble_eq_true rfl) (Nat.le_of_ble_eq_true rfl) ?_
      refine c_J2_size hpr.1 ?_
      refine w_p1 ?_
      refine w_icmp_ge (pc' := 29) (tgt := 211) dX0_fits_26 rfl rfl (fun h_ => ?_) (fun h_ => False.elim (by first | omega | (simp (decide := true) only [au_1, nu_2, au_lt, nu_lt, aw_e, nw_e, au_s, au_n, nu_s, nu_n, au_au, nu_nu, au_nu] at h_; omega)))
      refine w_iconst (pc' := 212) dX0_fits_211 rfl (by decide) ?_
      -- at 212: .ireturn
      refine w_ireturn dX0_fits_212 rfl ?_
      exact h
    · obtain ⟨b1r, b2, b3, b4, b5, b6⟩ := prow hR hP hp i0 i1
      have hS := sm_r (f := fun i => (σ.2 6 (rw_ σ p i))) 60 i0 (fun i' q0 q1 => (prow hR hP hp q0 (show i' < σ.2 11 p by omega)).2.1)
      rw [sm_s i0] at ih
      have hri := (hpr.2 i i0 i1).1
      have hri0 := hri
      obtain ⟨hro, n, fk, fm, fs, hnn, ak, am, as, hc⟩ := hri0
      have hnn : (n : Int) = (σ.2 6 (rw_ σ p i)) := hnn
      have hro : G (rO (rw_ σ p i)) = some (xob 5 [xR (rK (rw_ σ p i)), xR (rM (rw_ σ p i)), xR (rS (rw_ σ p i)), xI (σ.2 7 (rw_ σ p i))]) := hro
      -- from the row below on
      have inner : ∀ (bl : Option Rl) (x6 x7 x8 x9 x10 : Option XV), ((i + 1 < σ.2 11 p) ∧ bl = some (rO (rw_ σ p (i + 1))) ∨ ¬ (i + 1 < σ.2 11 p) ∧ bl = none) → tvW mX0_fits (d + 4) K 51 [some (xR oR), some (xI p), some (xR (pO p)), some (xI (sm (fun i => (σ.2 6 (rw_ σ p i))) i)), some (xI i), some (xR (rO (rw_ σ p i))), x6, x7, x8, x9, x10] [xO bl] G bc bs := by
        intro bl x6 x7 x8 x9 x10 hbl
        refine w_ast6 (pc' := 53) dX0_fits_51 rfl rfl ?_
        refine w_iconst (pc' := 54) dX0_fits_53 rfl (by decide) ?_
        refine w_ist7 (pc' := 56) dX0_fits_54 rfl rfl ?_
        -- at 56: .iload 7
        refine w_L (L' := [some (xR oR), some (xI p), some (xR (pO p)), some (xI (sm (fun i => (σ.2 6 (rw_ σ p i))) i + 0)), some (xI i), some (xR (rO (rw_ σ p i))), some (xO bl), some (xI 0), x8, x9, x10]) (by rw [Int.add_zero]) ?_
        refine up (T := fun k => ∀ x8 x9 x10 : Option XV, (∀ k', 0 ≤ k' → k' < k → ¬ ¬ (frt σ p i k' ∧ fbl σ p i k')) → tvW mX0_fits (d + 4) K 56 [some (xR oR), some (xI p), some (xR (pO p)), some (xI (sm (fun i => (σ.2 6 (rw_ σ p i))) i + k)), some (xI i), some (xR (rO (rw_ σ p i))), some (xO bl), some (xI k), x8, x9, x10] [] G bc bs) (σ.2 6 (rw_ σ p i)) b2.1 (fun x8 x9 x10 hk => ?_) (fun k k0 k1 ihk x8 x9 x10 hk => ?_) _ _ _ (fun k' a b => by omega)
        · refine w_iload (pc' := 58) dX0_fits_56 rfl rfl ?_
          refine w_aload (pc' := 60) dX0_fits_58 rfl rfl ?_
          refine w_get 0 (pc' := 63) dX0_fits_60 rfl fX0_187_5 hro rfl ?_
          refine w_alen (pc' := 64) dX0_fits_63 rfl ak ?_
          -- at 64: .if_icmp .ge 141
          rw [hnn]
          refine w_icmp_ge (pc' := 67) (tgt := 205) dX0_fits_64 rfl rfl (fun h_ => ?_) (fun h_ => False.elim (by first | omega | (simp (decide := true) only [au_1, nu_2, au_lt, nu_lt, aw_e, nw_e, au_s, au_n, nu_s, nu_n, au_au, nu_nu, au_nu] at h_; omega)))
          refine w_inc4 (pc' := 208) dX0_fits_205 rfl rfl ⟨by first | omega | (simp (decide := true) only [au_1, nu_2, au_lt, nu_lt, aw_e, nw_e, au_s, au_n, nu_s, nu_n, au_au, nu_nu, au_nu]; omega), by first | omega | (simp (decide := true) only [au_1, nu_2, au_lt, nu_lt, aw_e, nw_e, au_s, au_n, nu_s, nu_n, au_au, nu_nu, au_nu]; omega)⟩ ?_
          refine w_goto (tgt := 17) dX0_fits_208 rfl ?_
          -- at 17: .iload 4
          refine ih _ _ _ _ _ _ (fun i' q0 q1 => ?_)
          by_cases e : i' = i
          · rw [e]; exact hk
          · exact hn i' q0 (by omega)
        · have hck := b6 k k0 k1
          have fin : ∀ (x y : Int), (x = 1 ∧ frt σ p i k ∨ x = 0 ∧ ¬ frt σ p i k) → (y = 1 ∧ fbl σ p i k ∨ y = 0 ∧ ¬ fbl σ p i k) → ∀ x9, tvW mX0_fits (d + 4) K 169 [some (xR oR), some (xI p), some (xR (pO p)), some (xI (sm (fun i => (σ.2 6 (rw_ σ p i))) i + k)), some (xI i), some (xR (rO (rw_ σ p i))), some (xO bl), some (xI k), some (xI x), x9, some (xI y)] [] G bc bs := by
            intro x y hx hy x9
            have tx := tb hx
            have ty := tb hy
            have vx : x = 0 ∨ x = 1 := by omega
            have vy : y = 0 ∨ y = 1 := by omega
            have res : ¬ (frt σ p i k ∧ fbl σ p i k) → tvW mX0_fits (d + 4) K 179 [some (xR oR), some (xI p), some (xR (pO p)), some (xI (sm (fun i => (σ.2 6 (rw_ σ p i))) i + k)), some (xI i), some (xR (rO (rw_ σ p i))), some (xO bl), some (xI k), some (xI x), x9, some (xI y)] [] G bc bs := by
              intro q
              rw [fi2_hit (P := fun i k => ¬ (frt σ p i k ∧ fbl σ p i k)) i0 i1 k0 k1 q hk hn] at h
              refine w_iconst (pc' := 180) dX0_fits_179 rfl (by decide) ?_
              refine w_iconst (pc' := 181) dX0_fits_180 rfl (by decide) ?_
              refine w_iload_n (pc' := 182) dX0_fits_181 rfl rfl ?_
              refine w_imul (pc' := 183) dX0_fits_182 rfl ⟨by first | omega | (simp (decide := true) only [au_1, nu_2, au_lt, nu_lt, aw_e, nw_e, au_s, au_n, nu_s, nu_n, au_au, nu_nu, au_nu]; omega), by first | omega | (simp (decide := true) only [au_1, nu_2, au_lt, nu_lt, aw_e, nw_e, au_s, au_n, nu_s, nu_n, au_au, nu_nu, au_nu]; omega)⟩ ?_
              refine w_iadd (pc' := 184) dX0_fits_183 rfl ⟨by first | omega | (simp (decide := true) only [au_1, nu_2, au_lt, nu_lt, aw_e, nw_e, au_s, au_n, nu_s, nu_n, au_au, nu_nu, au_nu]; omega), by first | omega | (simp (decide := true) only [au_1, nu_2, au_lt, nu_lt, aw_e, nw_e, au_s, au_n, nu_s, nu_n, au_au, nu_nu, au_nu]; omega)⟩ ?_
              refine w_iload (pc' := 186) dX0_fits_184 rfl rfl ?_
              -- at 186: .ifCond .eq 7
              refine w_if_eq (pc' := 189) (tgt := 193) dX0_fits_186 rfl rfl (fun g => ?_) (fun g => ?_)
              · rw [b1_f (tx.1 g)] at h
                refine w_iconst (pc' := 194) dX0_fits_193 rfl (by decide) ?_
                refine w_iadd (pc' := 195) dX0_fits_194 rfl ⟨by first | omega | (simp (decide := true) only [au_1, nu_2, au_lt, nu_lt, aw_e, nw_e, au_s, au_n, nu_s, nu_n, au_au, nu_nu, au_nu]; omega), by first | omega | (simp (decide := true) only [au_1, nu_2, au_lt, nu_lt, aw_e, nw_e, au_s, au_n, nu_s, nu_n, au_au, nu_nu, au_nu]; omega)⟩ ?_
                -- at 195: .ireturn
                refine w_ireturn dX0_fits_195 rfl ?_
                exact h
              · rw [b1_t (tx.2 g)] at h
                refine w_iconst (pc' := 190) dX0_fits_189 rfl (by decide) ?_
                refine w_goto (tgt := 194) dX0_fits_190 rfl ?_
                refine w_iadd (pc' := 195) dX0_fits_194 rfl ⟨by first | omega | (simp (decide := true) only [au_1, nu_2, au_lt, nu_lt, aw_e, nw_e, au_s, au_n, nu_s, nu_n, au_au, nu_nu, au_nu]; omega), by first | omega | (simp (decide := true) only [au_1, nu_2, au_lt, nu_lt, aw_e, nw_e, au_s, au_n, nu_s, nu_n, au_au, nu_nu, au_nu]; omega)⟩ ?_
                -- at 195: .ireturn
                refine w_ireturn dX0_fits_195 rfl ?_
                exact h
            refine w_iload (pc' := 171) dX0_fits_169 rfl rfl ?_
            -- at 171: .ifCond .eq 8
            refine w_if_eq (pc' := 174) (tgt := 179) dX0_fits_171 rfl rfl (fun g => ?_) (fun g => ?_)
            · exact res (fun q => tx.1 g q.1)
            · refine w_iload (pc' := 176) dX0_fits_174 rfl rfl ?_
              -- at 176: .ifCond .ne 20
              refine w_if_ne (pc' := 179) (tgt := 196) dX0_fits_176 rfl rfl (fun g2 => ?_) (fun g2 => ?_)
              · refine w_inc7 (pc' := 199) dX0_fits_196 rfl rfl ⟨by first | omega | (simp (decide := true) only [au_1, nu_2, au_lt, nu_lt, aw_e, nw_e, au_s, au_n, nu_s, nu_n, au_au, nu_nu, au_nu]; omega), by first | omega | (simp (decide := true) only [au_1, nu_2, au_lt, nu_lt, aw_e, nw_e, au_s, au_n, nu_s, nu_n, au_au, nu_nu, au_nu]; omega)⟩ ?_
                refine w_inc3 (pc' := 202) dX0_fits_199 rfl rfl ⟨by first | omega | (simp (decide := true) only [au_1, nu_2, au_lt, nu_lt, aw_e, nw_e, au_s, au_n, nu_s, nu_n, au_au, nu_nu, au_nu]; omega), by first | omega | (simp (decide := true) only [au_1, nu_2, au_lt, nu_lt, aw_e, nw_e, au_s, au_n, nu_s, nu_n, au_au, nu_nu, au_nu]; omega)⟩ ?_
                refine w_goto (tgt := 56) dX0_fits_202 rfl ?_
                -- at 56: .iload 7
                rw [Int.add_assoc]
                refine ihk _ _ _ (fun k' q0 q1 => ?_)
                by_cases e : k' = k
                · rw [e]; exact fun q => q ⟨tx.2 g, ty.2 g2⟩
                · exact hk k' q0 (by omega)
              · exact res (fun q => ty.1 g2 q.2)
          have below : ∀ x : Int, (x = 1 ∧ frt σ p i k ∨ x = 0 ∧ ¬ frt σ p i k) → tvW mX0_fits (d + 4) K 103 [some (xR oR), some (xI p), some (xR (pO p)), some (xI (sm (fun i => (σ.2 6 (rw_ σ p i))) i + k)), some (xI i), some (xR (rO (rw_ σ p i))), some (xO bl), some (xI k), x8, x9, x10] [xI x] G bc bs := by
            intro x hx
            rcases hbl with ⟨hbl, rfl⟩ | ⟨hbl, rfl⟩
            · obtain ⟨c1r, c2, c3, c4, c5, c6⟩ := prow hR hP hp (show 0 ≤ i + 1 by omega) hbl
              have hrb := (hpr.2 (i + 1) (by omega) hbl).1
              have hrb0 := hrb
              obtain ⟨hrob, nb, fkb, fmb, fsb, hnnb, akb, -⟩ := hrb0
              have hnnb : (nb : Int) = (σ.2 6 (rw_ σ p (i + 1))) := hnnb
              have hrob : G (rO (rw_ σ p (i + 1))) = some (xob 5 [xR (rK (rw_ σ p (i + 1))), xR (rM (rw_ σ p (i + 1))), xR (rS (rw_ σ p (i + 1))), xI (σ.2 7 (rw_ σ p (i + 1)))]) := hrob
              have hsi : hs_ σ p (i + 1) ((σ.2 7 (rw_ σ p i)) + k) ↔ 0 ≤ (σ.2 7 (rw_ σ p i)) + k - (σ.2 7 (rw_ σ p (i + 1))) ∧ (σ.2 7 (rw_ σ p i)) + k - (σ.2 7 (rw_ σ p (i + 1))) < (σ.2 6 (rw_ σ p (i + 1))) := by
                rw [hs_iff]
                omega
              refine w_ist8 (pc' := 105) dX0_fits_103 rfl rfl ?_
              refine w_aload (pc' := 107) dX0_fits_105 rfl rfl ?_
              -- at 107: .ifnonnull 7
              refine w_ifnonnull (pc' := 110) (tgt := 114) dX0_fits_107 rfl rfl (fun h_ => ?_) (fun h_ => False.elim (nomatch h_))
              refine w_aload (pc' := 116) dX0_fits_114 rfl rfl ?_
              refine w_get 3 (pc' := 119) dX0_fits_116 rfl fX0_181_5 hro rfl ?_
              refine w_iload (pc' := 121) dX0_fits_119 rfl rfl ?_
              refine w_iadd (pc' := 122) dX0_fits_121 rfl ⟨by first | omega | (simp (decide := true) only [au_1, nu_2, au_lt, nu_lt, aw_e, nw_e, au_s, au_n, nu_s, nu_n, au_au, nu_nu, au_nu]; omega), by first | omega | (simp (decide := true) only [au_1, nu_2, au_lt, nu_lt, aw_e, nw_e, au_s, au_n, nu_s, nu_n, au_au, nu_nu, au_nu]; omega)⟩ ?_
              refine w_aload (pc' := 124) dX0_fits_122 rfl rfl ?_
              refine w_get 3 (pc' := 127) dX0_fits_124 rfl fX0_181_5 hrob rfl ?_
              refine w_isub (pc' := 128) dX0_fits_127 rfl ⟨by first | omega | (simp (decide := true) only [au_1, nu_2, au_lt, nu_lt, aw_e, nw_e, au_s, au_n, nu_s, nu_n, au_au, nu_nu, au_nu]; omega), by first | omega | (simp (decide := true) only [au_1, nu_2, au_lt, nu_lt, aw_e, nw_e, au_s, au_n, nu_s, nu_n, au_au, nu_nu, au_nu]; omega)⟩ ?_
              refine w_ist9 (pc' := 130) dX0_fits_128 rfl rfl ?_
              refine w_iload (pc' := 132) dX0_fits_130 rfl rfl ?_
              -- at 132: .ifCond .lt 30
              refine w_if_lt (pc' := 135) (tgt := 162) dX0_fits_132 rfl rfl (fun g => ?_) (fun g => ?_)
              · refine w_iconst (pc' := 163) dX0_fits_162 rfl (by decide) ?_
                refine w_goto (tgt := 167) dX0_fits_163 rfl ?_
                refine w_ist10 (pc' := 169) dX0_fits_167 rfl rfl ?_
                -- at 169: .iload 8
                exact fin _ _ hx (Or.inl ⟨rfl, Or.inl (fun z => by have := hsi.mp z; omega)⟩) _
              · refine w_iload (pc' := 137) dX0_fits_135 rfl rfl ?_
                refine w_aload (pc' := 139) dX0_fits_137 rfl rfl ?_
                refine w_get 0 (pc' := 142) dX0_fits_139 rfl fX0_187_5 hrob rfl ?_
                refine w_alen (pc' := 143) dX0_fits_142 rfl akb ?_
                -- at 143: .if_icmp .ge 19
                rw [hnnb]
                refine w_icmp_ge (pc' := 146) (tgt := 162) dX0_fits_143 rfl rfl (fun g2 => ?_) (fun g2 => ?_)
                · refine w_iconst (pc' := 163) dX0_fits_162 rfl (by decide) ?_
                  refine w_goto (tgt := 167) dX0_fits_163 rfl ?_
                  refine w_ist10 (pc' := 169) dX0_fits_167 rfl rfl ?_
                  -- at 169: .iload 8
                  exact fin _ _ hx (Or.inl ⟨rfl, Or.inl (fun z => by have := hsi.mp z; omega)⟩) _
                · have hs := hsi.mpr ⟨by omega, by omega⟩
                  have ec : ca_ σ p (i + 1) ((σ.2 7 (rw_ σ p i)) + k) = (σ.2 8 (60 * rw_ σ p (i + 1) + ((σ.2 7 (rw_ σ p i)) + k - (σ.2 7 (rw_ σ p (i + 1)))))) := by unfold ca_; rw [Int.add_sub_assoc]
                  refine w_aload_n (pc' := 147) dX0_fits_146 rfl rfl ?_
                  refine w_aload (pc' := 149) dX0_fits_147 rfl rfl ?_
                  refine w_iload (pc' := 151) dX0_fits_149 rfl rfl ?_
                  refine w_aload (pc' := 153) dX0_fits_151 rfl rfl ?_
                  refine w_iload (pc' := 155) dX0_fits_153 rfl rfl ?_
                  refine w_iconst (pc' := 156) dX0_fits_155 rfl (by decide) ?_
                  -- at 156: .invokevirtual 299
                  refine w_callV5 (pc' := 159) (mc := 0) (ms := 0) dX0_fits_156 rfl tX0_fit q807 rfl rfl qs20 q805 hof rfl (Nat.le_of_ble_eq_true rfl) (Nat.le_of_ble_eq_true rfl) ?_
                  refine c_X0_fit hw hK hri hrb k0 k1 (by omega) (by simp only []; omega) hck (c6 _ (by omega) (by omega)) ⟨by omega, by omega⟩ (fun r => w_p1 ?_) (fun r => w_p1 ?_)
                  · refine w_if_eq (pc' := 162) (tgt := 166) dX0_fits_159 rfl rfl (fun h_ => False.elim (by first | omega | (simp (decide := true) only [au_1, nu_2, au_lt, nu_lt, aw_e, nw_e, au_s, au_n, nu_s, nu_n, au_au, nu_nu, au_nu] at h_; omega))) (fun h_ => ?_)
                    refine w_iconst (pc' := 163) dX0_fits_162 rfl (by decide) ?_
                    refine w_goto (tgt := 167) dX0_fits_163 rfl ?_
                    refine w_ist10 (pc' := 169) dX0_fits_167 rfl rfl ?_
                    -- at 169: .iload 8
                    exact fin _ _ hx (Or.inl ⟨rfl, Or.inr (by rw [ec]; exact r)⟩) _
                  · refine w_if_eq (pc' := 162) (tgt := 166) dX0_fits_159 rfl rfl (fun h_ => ?_) (fun h_ => False.elim (by first | omega | (simp (decide := true) only [au_1, nu_2, au_lt, nu_lt, aw_e, nw_e, au_s, au_n, nu_s, nu_n, au_au, nu_nu, au_nu] at h_; omega)))
                    refine w_iconst (pc' := 167) dX0_fits_166 rfl (by decide) ?_
                    refine w_ist10 (pc' := 169) dX0_fits_167 rfl rfl ?_
                    -- at 169: .iload 8
                    exact fin _ _ hx (Or.inr ⟨rfl, fun z => z.elim (fun z => z hs) (fun z => r (by rw [ec] at z; exact z))⟩) _
            · refine w_ist8 (pc' := 105) dX0_fits_103 rfl rfl ?_
              refine w_aload (pc' := 107) dX0_fits_105 rfl rfl ?_
              -- at 107: .ifnonnull 7
              refine w_ifnonnull (pc' := 110) (tgt := 114) dX0_fits_107 rfl rfl (fun h_ => False.elim (h_ rfl)) (fun h_ => ?_)
              refine w_iconst (pc' := 111) dX0_fits_110 rfl (by decide) ?_
              refine w_goto (tgt := 128) dX0_fits_111 rfl ?_
              refine w_ist9 (pc' := 130) dX0_fits_128 rfl rfl ?_
              refine w_iload (pc' := 132) dX0_fits_130 rfl rfl ?_
              -- at 132: .ifCond .lt 30
              refine w_if_lt (pc' := 135) (tgt := 162) dX0_fits_132 rfl rfl (fun h_ => ?_) (fun h_ => False.elim (by first | omega | (simp (decide := true) only [au_1, nu_2, au_lt, nu_lt, aw_e, nw_e, au_s, au_n, nu_s, nu_n, au_au, nu_nu, au_nu] at h_; omega)))
              refine w_iconst (pc' := 163) dX0_fits_162 rfl (by decide) ?_
              refine w_goto (tgt := 167) dX0_fits_163 rfl ?_
              refine w_ist10 (pc' := 169) dX0_fits_167 rfl rfl ?_
              -- at 169: .iload 8
              exact fin _ _ hx (Or.inl ⟨rfl, Or.inl (fun z => hbl z.2.1)⟩) _
          have hsr : hs_ σ p i ((σ.2 7 (rw_ σ p i)) + k + 1) ↔ k + 1 < (σ.2 6 (rw_ σ p i)) := by
            rw [hs_iff]
            omega
          have ec : ca_ σ p i ((σ.2 7 (rw_ σ p i)) + k + 1) = (σ.2 8 (60 * rw_ σ p i + (k + 1))) := by
            unfold ca_
            rw [show 60 * rw_ σ p i + ((σ.2 7 (rw_ σ p i)) + k + 1) - (σ.2 7 (rw_ σ p i)) = 60 * rw_ σ p i + (k + 1) by omega]
          refine w_iload (pc' := 58) dX0_fits_56 rfl rfl ?_
          refine w_aload (pc' := 60) dX0_fits_58 rfl rfl ?_
          refine w_get 0 (pc' := 63) dX0_fits_60 rfl fX0_187_5 hro rfl ?_
          refine w_alen (pc' := 64) dX0_fits_63 rfl ak ?_
          -- at 64: .if_icmp .ge 141
          rw [hnn]
          refine w_icmp_ge (pc' := 67) (tgt := 205) dX0_fits_64 rfl rfl (fun h_ => False.elim (by first | omega | (simp (decide := true) only [au_1, nu_2, au_lt, nu_lt, aw_e, nw_e, au_s, au_n, nu_s, nu_n, au_au, nu_nu, au_nu] at h_; omega))) (fun h_ => ?_)
          refine w_iload (pc' := 69) dX0_fits_67 rfl rfl ?_
          refine w_iconst (pc' := 70) dX0_fits_69 rfl (by decide) ?_
          refine w_iadd (pc' := 71) dX0_fits_70 rfl ⟨by first | omega | (simp (decide := true) only [au_1, nu_2, au_lt, nu_lt, aw_e, nw_e, au_s, au_n, nu_s, nu_n, au_au, nu_nu, au_nu]; omega), by first | omega | (simp (decide := true) only [au_1, nu_2, au_lt, nu_lt, aw_e, nw_e, au_s, au_n, nu_s, nu_n, au_au, nu_nu, au_nu]; omega)⟩ ?_
          refine w_aload (pc' := 73) dX0_fits_71 rfl rfl ?_
          refine w_get 0 (pc' := 76) dX0_fits_73 rfl fX0_187_5 hro rfl ?_
          refine w_alen (pc' := 77) dX0_fits_76 rfl ak ?_
          -- at 77: .if_icmp .eq 21
          rw [hnn]
          refine w_icmp_eq (pc' := 80) (tgt := 98) dX0_fits_77 rfl rfl (fun g => ?_) (fun g => ?_)
          · refine w_iconst (pc' := 99) dX0_fits_98 rfl (by decide) ?_
            refine w_goto (tgt := 103) dX0_fits_99 rfl ?_
            -- at 103: .istore 8
            exact below _ (Or.inl ⟨rfl, Or.inl (fun z => by have := hsr.mp z; omega)⟩)
          · have hs := hsr.mpr (by omega)
            refine w_aload_n (pc' := 81) dX0_fits_80 rfl rfl ?_
            refine w_aload (pc' := 83) dX0_fits_81 rfl rfl ?_
            refine w_iload (pc' := 85) dX0_fits_83 rfl rfl ?_
            refine w_aload (pc' := 87) dX0_fits_85 rfl rfl ?_
            refine w_iload (pc' := 89) dX0_fits_87 rfl rfl ?_
            refine w_iconst (pc' := 90) dX0_fits_89 rfl (by decide) ?_
            refine w_iadd (pc' := 91) dX0_fits_90 rfl ⟨by first | omega | (simp (decide := true) only [au_1, nu_2, au_lt, nu_lt, aw_e, nw_e, au_s, au_n, nu_s, nu_n, au_au, nu_nu, au_nu]; omega), by first | omega | (simp (decide := true) only [au_1, nu_2, au_lt, nu_lt, aw_e, nw_e, au_s, au_n, nu_s, nu_n, au_au, nu_nu, au_nu]; omega)⟩ ?_
            refine w_iconst (pc' := 92) dX0_fits_91 rfl (by decide) ?_
            -- at 92: .invokevirtual 299
            refine w_callV5 (pc' := 95) (mc := 0) (ms := 0) dX0_fits_92 rfl tX0_fit q807 rfl rfl qs20 q805 hof rfl (Nat.le_of_ble_eq_true rfl) (Nat.le_of_ble_eq_true rfl) ?_
            refine c_X0_fit hw hK hri hri k0 k1 (by omega) (by simp only []; omega) hck (b6 _ (by omega) (by omega)) ⟨by omega, by omega⟩ (fun r => w_p1 ?_) (fun r => w_p1 ?_)
            · refine w_if_eq (pc' := 98) (tgt := 102) dX0_fits_95 rfl rfl (fun h_ => False.elim (by first | omega | (simp (decide := true) only [au_1, nu_2, au_lt, nu_lt, aw_e, nw_e, au_s, au_n, nu_s, nu_n, au_au, nu_nu, au_nu] at h_; omega))) (fun h_ => ?_)
              refine w_iconst (pc' := 99) dX0_fits_98 rfl (by decide) ?_
              refine w_goto (tgt := 103) dX0_fits_99 rfl ?_
              -- at 103: .istore 8
              exact below _ (Or.inl ⟨rfl, Or.inr (by rw [ec]; exact r)⟩)
            · refine w_if_eq (pc' := 98) (tgt := 102) dX0_fits_95 rfl rfl (fun h_ => ?_) (fun h_ => False.elim (by first | omega | (simp (decide := true) only [au_1, nu_2, au_lt, nu_lt, aw_e, nw_e, au_s, au_n, nu_s, nu_n, au_au, nu_nu, au_nu] at h_; omega)))
              refine w_iconst (pc' := 103) dX0_fits_102 rfl (by decide) ?_
              -- at 103: .istore 8
              exact below _ (Or.inr ⟨rfl, fun z => z.elim (fun z => z hs) (fun z => r (by rw [ec] at z; exact z))⟩)
      refine w_iload (pc' := 19) dX0_fits_17 rfl rfl ?_
      refine w_aload_n (pc' := 20) dX0_fits_19 rfl rfl ?_
      refine w_get 0 (pc' := 23) dX0_fits_20 rfl fX0_140_3 hPo rfl ?_
      -- at 23: .invokevirtual 54
      refine w_callV0 (pc' := 26) (mc := 0) (ms := 0) dX0_fits_23 rfl tJ2_size q207 rfl rfl q208 q206 hl rfl (Nat.le_of_ble_eq_true rfl) (Nat.le_of_ble_eq_true rfl) ?_
      refine c_J2_size hpr.1 ?_
      refine w_p1 ?_
      refine w_icmp_ge (pc' := 29) (tgt := 211) dX0_fits_26 rfl rfl (fun h_ => False.elim (by first | omega | (simp (decide := true) only [au_1, nu_2, au_lt, nu_lt, aw_e, nw_e, au_s, au_n, nu_s, nu_n, au_au, nu_nu, au_nu] at h_; omega))) (fun h_ => ?_)
      refine w_aload_n (pc' := 30) dX0_fits_29 rfl rfl ?_
      refine w_get 0 (pc' := 33) dX0_fits_30 rfl fX0_140_3 hPo rfl ?_
      refine w_iload (pc' := 35) dX0_fits_33 rfl rfl ?_
      -- at 35: .invokevirtual 58
      refine w_callV1 (pc' := 38) (mc := 0) (ms := 0) dX0_fits_35 rfl tJ2_get q211 rfl rfl q212 q210 hl rfl (Nat.le_of_ble_eq_true rfl) (Nat.le_of_ble_eq_true rfl) ?_
      refine c_J2_get hpr.1 ⟨i0, i1⟩ ?_
      refine w_p1 ?_
      refine w_cast (pc' := 41) dX0_fits_38 rfl hro rfl q425 ?_
      refine w_ast5 (pc' := 43) dX0_fits_41 rfl rfl ?_
      refine w_aload_n (pc' := 44) dX0_fits_43 rfl rfl ?_
      refine w_iload (pc' := 46) dX0_fits_44 rfl rfl ?_
      refine w_iconst (pc' := 47) dX0_fits_46 rfl (by decide) ?_
      refine w_iadd (pc' := 48) dX0_fits_47 rfl ⟨by first | omega | (simp (decide := true) only [au_1, nu_2, au_lt, nu_lt, aw_e, nw_e, au_s, au_n, nu_s, nu_n, au_au, nu_nu, au_nu]; omega), by first | omega | (simp (decide := true) only [au_1, nu_2, au_lt, nu_lt, aw_e, nw_e, au_s, au_n, nu_s, nu_n, au_au, nu_nu, au_nu]; omega)⟩ ?_
      -- at 48: .invokevirtual 166
      refine w_callV1 (pc' := 51) (mc := 0) (ms := 0) dX0_fits_48 rfl tX4_row q466 rfl rfl q467 q465 hPo rfl (Nat.le_of_ble_eq_true rfl) (Nat.le_of_ble_eq_true rfl) ?_
      exact c_X4_row hPo hpr (fun i0' i1' => w_p1 (inner _ _ _ _ _ _ (Or.inl ⟨i1', rfl⟩))) (fun g => w_p1 (inner _ _ _ _ _ _ (Or.inr ⟨by omega, rfl⟩)))
  · rw [ic_f g] at h
    refine w_ast2 (pc' := 6) dX0_fits_5 rfl rfl ?_
    refine w_aload_n (pc' := 7) dX0_fits_6 rfl rfl ?_
    -- at 7: .ifnonnull 5
    refine w_ifnonnull (pc' := 10) (tgt := 12) dX0_fits_7 rfl rfl (fun h_ => False.elim (h_ rfl)) (fun h_ => ?_)
    refine w_iconst (pc' := 11) dX0_fits_10 rfl (by decide) ?_
    -- at 11: .ireturn
    refine w_ireturn dX0_fits_11 rfl ?_
    exact h
theorem c_X0_repeats {p dn on : Int} (hw : Rx σ w G) (hR : rok σ) (hP : pok σ) (hp : 0 ≤ p ∧ p < σ.1 12) (hd : 0 ≤ dn ∧ dn ≤ 1000) (ho : 0 ≤ on ∧ on ≤ 1000) (h1 : cag σ p dn on → K (some (xI 1)) G) (h0 : ¬ cag σ p dn on → K (some (xI 0)) G) : tvW mX0_repeats (d + 3) K 0 [some (xR (pO p)), some (xI dn), some (xI on), none, none, none, none, none] [] G bc bs := by
  have hM := (hP.2 p hp.1 hp.2).1
  have hp1 := hP.1
  obtain ⟨hPo, -⟩ := hw.2.2.2.1.2 p hp.1 hp.2
  have hpr := Rx_prw hw hR hP hp.1 hp.2
  obtain ⟨lf, hl⟩ := lst_o hpr.1
  have done : ∀ (i : Int) (x4 x5 x6 x7 : Option XV), σ.2 11 p ≤ i + dn → 0 ≤ i → i ≤ σ.2 11 p → (∀ i', 0 ≤ i' → i' < i → ∀ k, 0 ≤ k → k < (σ.2 6 (rw_ σ p i')) → hs_ σ p (i' + dn) ((σ.2 7 (rw_ σ p i')) + k + on) → ca_ σ p (i' + dn) ((σ.2 7 (rw_ σ p i')) + k + on) = (σ.2 8 (60 * rw_ σ p i' + k))) → tvW mX0_repeats (d + 3) K 2 [some (xR (pO p)), some (xI dn), some (xI on), some (xI i), x4, x5, x6, x7] [] G bc bs := by
    intro i x4 x5 x6 x7 q q0 q1 hn
    refine w_iload_n (pc' := 3) dX0_repeats_2 rfl rfl ?_
    refine w_iload_n (pc' := 4) dX0_repeats_3 rfl rfl ?_
    refine w_iadd (pc' := 5) dX0_repeats_4 rfl ⟨by first | omega | (simp (decide := true) only [au_1, nu_2, au_lt, nu_lt, aw_e, nw_e, au_s, au_n, nu_s, nu_n, au_au, nu_nu, au_nu]; omega), by first | omega | (simp (decide := true) only [au_1, nu_2, au_lt, nu_lt, aw_e, nw_e, au_s, au_n, nu_s, nu_n, au_au, nu_nu, au_nu]; omega)⟩ ?_
    refine w_aload_n (pc' := 6) dX0_repeats_5 rfl rfl ?_
    refine w_get 0 (pc' := 9) dX0_repeats_6 rfl fX0_140_3 hPo rfl ?_
    -- at 9: .invokevirtual 54
    refine w_callV0 (pc' := 12) (mc := 0) (ms := 0) dX0_repeats_9 rfl tJ2_size q207 rfl rfl q208 q206 hl rfl (Nat.le_of_ble_eq_true rfl) (Nat.le_of_ble_eq_true rfl) ?_
    refine c_J2_size hpr.1 ?_
    refine w_p1 ?_
    refine w_icmp_ge (pc' := 15) (tgt := 119) dX0_repeats_12 rfl rfl (fun h_ => ?_) (fun h_ => False.elim (by first | omega | (simp (decide := true) only [au_1, nu_2, au_lt, nu_lt, aw_e, nw_e, au_s, au_n, nu_s, nu_n, au_au, nu_nu, au_nu] at h_; omega)))
    refine w_iconst (pc' := 120) dX0_repeats_119 rfl (by decide) ?_
    -- at 120: .ireturn
    refine w_zreturn dX0_repeats_120 rfl (by first | exact Or.inl rfl | exact Or.inr rfl | omega) ?_
    refine h1 (fun i' i0 i1 k k0 k1 hs => ?_)
    by_cases e : i' < i
    · exact hn i' i0 e k k0 k1 hs
    · have := hs.2.1
      omega
  refine w_iconst (pc' := 1) dX0_repeats_0 rfl (by decide) ?_
  refine w_ist3 (pc' := 2) dX0_repeats_1 rfl rfl ?_
  -- at 2: .iload_n 3
  refine up (T := fun i => ∀ x4 x5 x6 x7 : Option XV, (∀ i', 0 ≤ i' → i' < i → ∀ k, 0 ≤ k → k < (σ.2 6 (rw_ σ p i')) → hs_ σ p (i' + dn) ((σ.2 7 (rw_ σ p i')) + k + on) → ca_ σ p (i' + dn) ((σ.2 7 (rw_ σ p i')) + k + on) = (σ.2 8 (60 * rw_ σ p i' + k))) → tvW mX0_repeats (d + 3) K 2 [some (xR (pO p)), some (xI dn), some (xI on), some (xI i), x4, x5, x6, x7] [] G bc bs) (σ.2 11 p) hM.1 (fun x4 x5 x6 x7 hn => done _ _ _ _ _ (by omega) hM.1 (by omega) hn) (fun i i0 i1 ih x4 x5 x6 x7 hn => ?_) _ _ _ _ (fun i' a b => by omega)
  by_cases hin : i + dn < σ.2 11 p
  · obtain ⟨b1r, b2, b3, b4, b5, b6⟩ := prow hR hP hp i0 i1
    obtain ⟨c1r, c2, c3, c4, c5, c6⟩ := prow hR hP hp (show 0 ≤ i + dn by omega) hin
    have hri := (hpr.2 i i0 i1).1
    have hrb := (hpr.2 (i + dn) (by omega) hin).1
    have hri0 := hri
    have hrb0 := hrb
    obtain ⟨hro, n, fk, fm, fs, hnn, ak, -⟩ := hri0
    obtain ⟨hrob, nb, fkb, fmb, fsb, hnnb, akb, -⟩ := hrb0
    have hnn : (n : Int) = (σ.2 6 (rw_ σ p i)) := hnn
    have hro : G (rO (rw_ σ p i)) = some (xob 5 [xR (rK (rw_ σ p i)), xR (rM (rw_ σ p i)), xR (rS (rw_ σ p i)), xI (σ.2 7 (rw_ σ p i))]) := hro
    have hnnb : (nb : Int) = (σ.2 6 (rw_ σ p (i + dn))) := hnnb
    have hrob : G (rO (rw_ σ p (i + dn))) = some (xob 5 [xR (rK (rw_ σ p (i + dn))), xR (rM (rw_ σ p (i + dn))), xR (rS (rw_ σ p (i + dn))), xI (σ.2 7 (rw_ σ p (i + dn)))]) := hrob
    refine w_iload_n (pc' := 3) dX0_repeats_2 rfl rfl ?_
    refine w_iload_n (pc' := 4) dX0_repeats_3 rfl rfl ?_
    refine w_iadd (pc' := 5) dX0_repeats_4 rfl ⟨by first | omega | (simp (decide := true) only [au_1, nu_2, au_lt, nu_lt, aw_e, nw_e, au_s, au_n, nu_s, nu_n, au_au, nu_nu, au_nu]; omega), by first | omega | (simp (decide := true) only [au_1, nu_2, au_lt, nu_lt, aw_e, nw_e, au_s, au_n, nu_s, nu_n, au_au, nu_nu, au_nu]; omega)⟩ ?_
    refine w_aload_n (pc' := 6) dX0_repeats_5 rfl rfl ?_
    refine w_get 0 (pc' := 9) dX0_repeats_6 rfl fX0_140_3 hPo rfl ?_
    -- at 9: .invokevirtual 54
    refine w_callV0 (pc' := 12) (mc := 0) (ms := 0) dX0_repeats_9 rfl tJ2_size q207 rfl rfl q208 q206 hl rfl (Nat.le_of_ble_eq_true rfl) (Nat.le_of_ble_eq_true rfl) ?_
    refine c_J2_size hpr.1 ?_
    refine w_p1 ?_
    refine w_icmp_ge (pc' := 15) (tgt := 119) dX0_repeats_12 rfl rfl (fun h_ => False.elim (by first | omega | (simp (decide := true) only [au_1, nu_2, au_lt, nu_lt, aw_e, nw_e, au_s, au_n, nu_s, nu_n, au_au, nu_nu, au_nu] at h_; omega))) (fun h_ => ?_)
    refine w_aload_n (pc' := 16) dX0_repeats_15 rfl rfl ?_
    refine w_get 0 (pc' := 19) dX0_repeats_16 rfl fX0_140_3 hPo rfl ?_
    refine w_iload_n (pc' := 20) dX0_repeats_19 rfl rfl ?_
    -- at 20: .invokevirtual 58
    refine w_callV1 (pc' := 23) (mc := 0) (ms := 0) dX0_repeats_20 rfl tJ2_get q211 rfl rfl q212 q210 hl rfl (Nat.le_of_ble_eq_true rfl) (Nat.le_of_ble_eq_true rfl) ?_
    refine c_J2_get hpr.1 ⟨i0, i1⟩ ?_
    refine w_p1 ?_
    refine w_cast (pc' := 26) dX0_repeats_23 rfl hro rfl q425 ?_
    refine w_ast4 (pc' := 28) dX0_repeats_26 rfl rfl ?_
    refine w_aload_n (pc' := 29) dX0_repeats_28 rfl rfl ?_
    refine w_get 0 (pc' := 32) dX0_repeats_29 rfl fX0_140_3 hPo rfl ?_
    refine w_iload_n (pc' := 33) dX0_repeats_32 rfl rfl ?_
    refine w_iload_n (pc' := 34) dX0_repeats_33 rfl rfl ?_
    refine w_iadd (pc' := 35) dX0_repeats_34 rfl ⟨by first | omega | (simp (decide := true) only [au_1, nu_2, au_lt, nu_lt, aw_e, nw_e, au_s, au_n, nu_s, nu_n, au_au, nu_nu, au_nu]; omega), by first | omega | (simp (decide := true) only [au_1, nu_2, au_lt, nu_lt, aw_e, nw_e, au_s, au_n, nu_s, nu_n, au_au, nu_nu, au_nu]; omega)⟩ ?_
    -- at 35: .invokevirtual 58
    refine w_callV1 (pc' := 38) (mc := 0) (ms := 0) dX0_repeats_35 rfl tJ2_get q211 rfl rfl q212 q210 hl rfl (Nat.le_of_ble_eq_true rfl) (Nat.le_of_ble_eq_true rfl) ?_
    refine c_J2_get hpr.1 ⟨by omega, hin⟩ ?_
    refine w_p1 ?_
    refine w_cast (pc' := 41) dX0_repeats_38 rfl hrob rfl q425 ?_
    refine w_ast5 (pc' := 43) dX0_repeats_41 rfl rfl ?_
    refine w_iconst (pc' := 44) dX0_repeats_43 rfl (by decide) ?_
    refine w_ist6 (pc' := 46) dX0_repeats_44 rfl rfl ?_
    -- at 46: .iload 6
    refine up (T := fun k => ∀ x7 : Option XV, (∀ k', 0 ≤ k' → k' < k → hs_ σ p (i + dn) ((σ.2 7 (rw_ σ p i)) + k' + on) → ca_ σ p (i + dn) ((σ.2 7 (rw_ σ p i)) + k' + on) = (σ.2 8 (60 * rw_ σ p i + k'))) → tvW mX0_repeats (d + 3) K 46 [some (xR (pO p)), some (xI dn), some (xI on), some (xI i), some (xR (rO (rw_ σ p i))), some (xR (rO (rw_ σ p (i + dn)))), some (xI k), x7] [] G bc bs) (σ.2 6 (rw_ σ p i)) b2.1 (fun x7 hk => ?_) (fun k k0 k1 ihk x7 hk => ?_) _ (fun k' a b => by omega)
    · refine w_iload (pc' := 48) dX0_repeats_46 rfl rfl ?_
      refine w_aload (pc' := 50) dX0_repeats_48 rfl rfl ?_
      refine w_get 0 (pc' := 53) dX0_repeats_50 rfl fX0_187_5 hro rfl ?_
      refine w_alen (pc' := 54) dX0_repeats_53 rfl ak ?_
      -- at 54: .if_icmp .ge 59
      rw [hnn]
      refine w_icmp_ge (pc' := 57) (tgt := 113) dX0_repeats_54 rfl rfl (fun h_ => ?_) (fun h_ => False.elim (by first | omega | (simp (decide := true) only [au_1, nu_2, au_lt, nu_lt, aw_e, nw_e, au_s, au_n, nu_s, nu_n, au_au, nu_nu, au_nu] at h_; omega)))
      refine w_inc3 (pc' := 116) dX0_repeats_113 rfl rfl ⟨by first | omega | (simp (decide := true) only [au_1, nu_2, au_lt, nu_lt, aw_e, nw_e, au_s, au_n, nu_s, nu_n, au_au, nu_nu, au_nu]; omega), by first | omega | (simp (decide := true) only [au_1, nu_2, au_lt, nu_lt, aw_e, nw_e, au_s, au_n, nu_s, nu_n, au_au, nu_nu, au_nu]; omega)⟩ ?_
      refine w_goto (tgt := 2) dX0_repeats_116 rfl ?_
      -- at 2: .iload_n 3
      refine ih _ _ _ _ (fun i' q0 q1 => ?_)
      by_cases e : i' = i
      · rw [e]; exact hk
      · exact hn i' q0 (by omega)
    · have hsi : hs_ σ p (i + dn) ((σ.2 7 (rw_ σ p i)) + k + on) ↔ 0 ≤ (σ.2 7 (rw_ σ p i)) + k + on - (σ.2 7 (rw_ σ p (i + dn))) ∧ (σ.2 7 (rw_ σ p i)) + k + on - (σ.2 7 (rw_ σ p (i + dn))) < (σ.2 6 (rw_ σ p (i + dn))) := by
        rw [hs_iff]
        omega
      have next : (hs_ σ p (i + dn) ((σ.2 7 (rw_ σ p i)) + k + on) → ca_ σ p (i + dn) ((σ.2 7 (rw_ σ p i)) + k + on) = (σ.2 8 (60 * rw_ σ p i + k))) → ∀ x7, tvW mX0_repeats (d + 3) K 107 [some (xR (pO p)), some (xI dn), some (xI on), some (xI i), some (xR (rO (rw_ σ p i))), some (xR (rO (rw_ σ p (i + dn)))), some (xI k), x7] [] G bc bs := by
        intro q x7
        refine w_inc6 (pc' := 110) dX0_repeats_107 rfl rfl ⟨by first | omega | (simp (decide := true) only [au_1, nu_2, au_lt, nu_lt, aw_e, nw_e, au_s, au_n, nu_s, nu_n, au_au, nu_nu, au_nu]; omega), by first | omega | (simp (decide := true) only [au_1, nu_2, au_lt, nu_lt, aw_e, nw_e, au_s, au_n, nu_s, nu_n, au_au, nu_nu, au_nu]; omega)⟩ ?_
        refine w_goto (tgt := 46) dX0_repeats_110 rfl ?_
        -- at 46: .iload 6
        refine ihk _ (fun k' q0 q1 => ?_)
        by_cases e : k' = k
        · rw [e]; exact q
        · exact hk k' q0 (by omega)
      refine w_iload (pc' := 48) dX0_repeats_46 rfl rfl ?_
      refine w_aload (pc' := 50) dX0_repeats_48 rfl rfl ?_
      refine w_get 0 (pc' := 53) dX0_repeats_50 rfl fX0_187_5 hro rfl ?_
      refine w_alen (pc' := 54) dX0_repeats_53 rfl ak ?_
      -- at 54: .if_icmp .ge 59
      rw [hnn]
      refine w_icmp_ge (pc' := 57) (tgt := 113) dX0_repeats_54 rfl rfl (fun h_ => False.elim (by first | omega | (simp (decide := true) only [au_1, nu_2, au_lt, nu_lt, aw_e, nw_e, au_s, au_n, nu_s, nu_n, au_au, nu_nu, au_nu] at h_; omega))) (fun h_ => ?_)
      refine w_aload (pc' := 59) dX0_repeats_57 rfl rfl ?_
      refine w_get 3 (pc' := 62) dX0_repeats_59 rfl fX0_181_5 hro rfl ?_
      refine w_iload (pc' := 64) dX0_repeats_62 rfl rfl ?_
      refine w_iadd (pc' := 65) dX0_repeats_64 rfl ⟨by first | omega | (simp (decide := true) only [au_1, nu_2, au_lt, nu_lt, aw_e, nw_e, au_s, au_n, nu_s, nu_n, au_au, nu_nu, au_nu]; omega), by first | omega | (simp (decide := true) only [au_1, nu_2, au_lt, nu_lt, aw_e, nw_e, au_s, au_n, nu_s, nu_n, au_au, nu_nu, au_nu]; omega)⟩ ?_
      refine w_iload_n (pc' := 66) dX0_repeats_65 rfl rfl ?_
      refine w_iadd (pc' := 67) dX0_repeats_66 rfl ⟨by first | omega | (simp (decide := true) only [au_1, nu_2, au_lt, nu_lt, aw_e, nw_e, au_s, au_n, nu_s, nu_n, au_au, nu_nu, au_nu]; omega), by first | omega | (simp (decide := true) only [au_1, nu_2, au_lt, nu_lt, aw_e, nw_e, au_s, au_n, nu_s, nu_n, au_au, nu_nu, au_nu]; omega)⟩ ?_
      refine w_aload (pc' := 69) dX0_repeats_67 rfl rfl ?_
      refine w_get 3 (pc' := 72) dX0_repeats_69 rfl fX0_181_5 hrob rfl ?_
      refine w_isub (pc' := 73) dX0_repeats_72 rfl ⟨by first | omega | (simp (decide := true) only [au_1, nu_2, au_lt, nu_lt, aw_e, nw_e, au_s, au_n, nu_s, nu_n, au_au, nu_nu, au_nu]; omega), by first | omega | (simp (decide := true) only [au_1, nu_2, au_lt, nu_lt, aw_e, nw_e, au_s, au_n, nu_s, nu_n, au_au, nu_nu, au_nu]; omega)⟩ ?_
      refine w_ist7 (pc' := 75) dX0_repeats_73 rfl rfl ?_
      refine w_iload (pc' := 77) dX0_repeats_75 rfl rfl ?_
      -- at 77: .ifCond .lt 30
      refine w_if_lt (pc' := 80) (tgt := 107) dX0_repeats_77 rfl rfl (fun g => ?_) (fun g => ?_)
      · exact next (fun z => by have := hsi.mp z; omega) _
      · refine w_iload (pc' := 82) dX0_repeats_80 rfl rfl ?_
        refine w_aload (pc' := 84) dX0_repeats_82 rfl rfl ?_
        refine w_get 0 (pc' := 87) dX0_repeats_84 rfl fX0_187_5 hrob rfl ?_
        refine w_alen (pc' := 88) dX0_repeats_87 rfl akb ?_
        -- at 88: .if_icmp .ge 19
        rw [hnnb]
        refine w_icmp_ge (pc' := 91) (tgt := 107) dX0_repeats_88 rfl rfl (fun g2 => ?_) (fun g2 => ?_)
        · exact next (fun z => by have := hsi.mp z; omega) _
        · have hs := hsi.mpr ⟨by omega, by omega⟩
          have ec : ca_ σ p (i + dn) ((σ.2 7 (rw_ σ p i)) + k + on) = (σ.2 8 (60 * rw_ σ p (i + dn) + ((σ.2 7 (rw_ σ p i)) + k + on - (σ.2 7 (rw_ σ p (i + dn)))))) := by unfold ca_; rw [Int.add_sub_assoc]
          refine w_aload (pc' := 93) dX0_repeats_91 rfl rfl ?_
          refine w_iload (pc' := 95) dX0_repeats_93 rfl rfl ?_
          refine w_aload (pc' := 97) dX0_repeats_95 rfl rfl ?_
          refine w_iload (pc' := 99) dX0_repeats_97 rfl rfl ?_
          -- at 99: .invokestatic 303
          refine w_callS4 (pc' := 102) (mc := 0) (ms := 0) dX0_repeats_99 rfl tX0_isAlike q817 q816 rfl (Nat.le_of_ble_eq_true rfl) (Nat.le_of_ble_eq_true rfl) ?_
          refine c_X0_isAlike (KK := σ.1 5) hri hrb k0 k1 (by omega) (by simp only []; omega) (b6 k k0 k1) (c6 _ (by omega) (by omega)) (fun r => w_p1 ?_) (fun r => w_p1 ?_)
          · refine w_if_ne (pc' := 105) (tgt := 107) dX0_repeats_102 rfl rfl (fun h_ => ?_) (fun h_ => False.elim (by first | omega | (simp (decide := true) only [au_1, nu_2, au_lt, nu_lt, aw_e, nw_e, au_s, au_n, nu_s, nu_n, au_au, nu_nu, au_nu] at h_; omega)))
            exact next (fun _ => by rw [ec]; exact r.symm) _
          · refine w_if_ne (pc' := 105) (tgt := 107) dX0_repeats_102 rfl rfl (fun h_ => False.elim (by first | omega | (simp (decide := true) only [au_1, nu_2, au_lt, nu_lt, aw_e, nw_e, au_s, au_n, nu_s, nu_n, au_au, nu_nu, au_nu] at h_; omega))) (fun h_ => ?_)
            refine w_iconst (pc' := 106) dX0_repeats_105 rfl (by decide) ?_
            -- at 106: .ireturn
            refine w_zreturn dX0_repeats_106 rfl (by first | exact Or.inl rfl | exact Or.inr rfl | omega) ?_
            refine h0 (fun q => r ?_)
            have := q i i0 i1 k k0 k1 hs
            rw [ec] at this
            exact this.symm
  · exact done i _ _ _ _ (by omega) i0 (by omega) hn
theorem c_X0_period {p x : Int} (hw : Rx σ w G) (hR : rok σ) (hP : pok σ) (h : K (some (xI (aPer σ p x))) G) : tvW mX0_period (d + 4) K 0 [some (xR oR), some (xI p), some (xI x), none, none] [] G bc bs := by
  have hof := hw.1
  unfold off at hof
  unfold aPer at h
  have bad : ∀ o : Option Rl, ¬ ((0 ≤ p ∧ p < σ.1 12) ∧ 0 ≤ x ∧ x ≤ 1) → tvW mX0_period (d + 4) K 19 [some (xR oR), some (xI p), some (xI x), some (xO o), none] [] G bc bs := by
    intro o q
    rw [ic_f q] at h
    refine w_iconst (pc' := 20) dX0_period_19 rfl (by decide) ?_
    -- at 20: .ireturn
    refine w_ireturn dX0_period_20 rfl ?_
    exact h
  refine w_aload_n (pc' := 1) dX0_period_0 rfl rfl ?_
  refine w_iload_n (pc' := 2) dX0_period_1 rfl rfl ?_
  -- at 2: .invokevirtual 150
  refine w_callV1 (pc' := 5) (mc := 0) (ms := 0) dX0_period_2 rfl tX0_pattern_2 q375 rfl rfl qs4 q373 hof rfl (Nat.le_of_ble_eq_true rfl) (Nat.le_of_ble_eq_true rfl) ?_
  refine c_X0_pattern_2 hw (fun p0 p1 => w_p1 ?_) (fun g => w_p1 ?_)
  · refine w_ast3 (pc' := 6) dX0_period_5 rfl rfl ?_
    refine w_aload_n (pc' := 7) dX0_period_6 rfl rfl ?_
    -- at 7: .ifnull 12
    refine w_ifnull (pc' := 10) (tgt := 19) dX0_period_7 rfl rfl (fun h_ => False.elim (nomatch h_)) (fun h_ => ?_)
    refine w_iload_n (pc' := 11) dX0_period_10 rfl rfl ?_
    -- at 11: .ifCond .lt 8
    refine w_if_lt (pc' := 14) (tgt := 19) dX0_period_11 rfl rfl (fun g1 => ?_) (fun g1 => ?_)
    · exact bad _ (by omega)
    · refine w_iload_n (pc' := 15) dX0_period_14 rfl rfl ?_
      refine w_iconst (pc' := 16) dX0_period_15 rfl (by decide) ?_
      -- at 16: .if_icmp .le 5
      refine w_icmp_le (pc' := 19) (tgt := 21) dX0_period_16 rfl rfl (fun g2 => ?_) (fun g2 => ?_)
      · have hp : 0 ≤ p ∧ p < σ.1 12 := ⟨p0, p1⟩
        rw [ic_t ⟨hp, by omega, by omega⟩] at h
        have hM := (hP.2 p hp.1 hp.2).1
        have last : cag σ p (if x = 0 then 150 else 0) (if x = 0 then 0 else 150) := by
          intro i i0 i1 k k0 k1 hs
          obtain ⟨b1r, b2, b3, b4, b5, b6⟩ := prow hR hP hp i0 i1
          split at hs
          · rename_i e
            have := hs.2.1
            omega
          · rename_i e
            obtain ⟨s1, s2, s3, s4⟩ := hs
            obtain ⟨b1r', b2', b3', b4', b5', b6'⟩ := prow hR hP hp s1 s2
            omega
        refine w_iconst (pc' := 22) dX0_period_21 rfl (by decide) ?_
        refine w_ist4 (pc' := 24) dX0_period_22 rfl rfl ?_
        -- at 24: .aload_n 3
        have body : ∀ a, 1 ≤ a → a ≤ 150 → (cag σ p (if x = 0 then a else 0) (if x = 0 then 0 else a) → tvW mX0_period (d + 4) K 57 [some (xR oR), some (xI p), some (xI x), some (xR (pO p)), some (xI a)] [] G bc bs) → (¬ cag σ p (if x = 0 then a else 0) (if x = 0 then 0 else a) → tvW mX0_period (d + 4) K 51 [some (xR oR), some (xI p), some (xI x), some (xR (pO p)), some (xI a)] [] G bc bs) → tvW mX0_period (d + 4) K 24 [some (xR oR), some (xI p), some (xI x), some (xR (pO p)), some (xI a)] [] G bc bs := by
          intro a a0 a1 y n
          refine w_aload_n (pc' := 25) dX0_period_24 rfl rfl ?_
          refine w_iload_n (pc' := 26) dX0_period_25 rfl rfl ?_
          -- at 26: .ifCond .ne 8
          refine w_if_ne (pc' := 29) (tgt := 34) dX0_period_26 rfl rfl (fun g => ?_) (fun g => ?_)
          · rw [if_neg g, if_neg g] at y n
            refine w_iconst (pc' := 35) dX0_period_34 rfl (by decide) ?_
            refine w_iload_n (pc' := 36) dX0_period_35 rfl rfl ?_
            -- at 36: .ifCond .ne 7
            refine w_if_ne (pc' := 39) (tgt := 43) dX0_period_36 rfl rfl (fun h_ => ?_) (fun h_ => False.elim (by first | omega | (simp (decide := true) only [au_1, nu_2, au_lt, nu_lt, aw_e, nw_e, au_s, au_n, nu_s, nu_n, au_au, nu_nu, au_nu] at h_; omega)))
            refine w_iload (pc' := 45) dX0_period_43 rfl rfl ?_
            -- at 45: .invokestatic 307
            refine w_callS3 (pc' := 48) (mc := 0) (ms := 0) dX0_period_45 rfl tX0_repeats q814 q813 rfl (Nat.le_of_ble_eq_true rfl) (Nat.le_of_ble_eq_true rfl) ?_
            refine c_X0_repeats hw hR hP hp ⟨by omega, by omega⟩ ⟨by omega, by omega⟩ (fun q => w_p1 ?_) (fun q => w_p1 ?_)
            · refine w_if_ne (pc' := 51) (tgt := 57) dX0_period_48 rfl rfl (fun h_ => ?_) (fun h_ => False.elim (by first | omega | (simp (decide := true) only [au_1, nu_2, au_lt, nu_lt, aw_e, nw_e, au_s, au_n, nu_s, nu_n, au_au, nu_nu, au_nu] at h_; omega)))
              exact y q
            · refine w_if_ne (pc' := 51) (tgt := 57) dX0_period_48 rfl rfl (fun h_ => False.elim (by first | omega | (simp (decide := true) only [au_1, nu_2, au_lt, nu_lt, aw_e, nw_e, au_s, au_n, nu_s, nu_n, au_au, nu_nu, au_nu] at h_; omega))) (fun h_ => ?_)
              exact n q
          · rw [if_pos g, if_pos g] at y n
            refine w_iload (pc' := 31) dX0_period_29 rfl rfl ?_
            refine w_goto (tgt := 35) dX0_period_31 rfl ?_
            refine w_iload_n (pc' := 36) dX0_period_35 rfl rfl ?_
            -- at 36: .ifCond .ne 7
            refine w_if_ne (pc' := 39) (tgt := 43) dX0_period_36 rfl rfl (fun h_ => False.elim (by first | omega | (simp (decide := true) only [au_1, nu_2, au_lt, nu_lt, aw_e, nw_e, au_s, au_n, nu_s, nu_n, au_au, nu_nu, au_nu] at h_; omega))) (fun h_ => ?_)
            refine w_iconst (pc' := 40) dX0_period_39 rfl (by decide) ?_
            refine w_goto (tgt := 45) dX0_period_40 rfl ?_
            -- at 45: .invokestatic 307
            refine w_callS3 (pc' := 48) (mc := 0) (ms := 0) dX0_period_45 rfl tX0_repeats q814 q813 rfl (Nat.le_of_ble_eq_true rfl) (Nat.le_of_ble_eq_true rfl) ?_
            refine c_X0_repeats hw hR hP hp ⟨by omega, by omega⟩ ⟨by omega, by omega⟩ (fun q => w_p1 ?_) (fun q => w_p1 ?_)
            · refine w_if_ne (pc' := 51) (tgt := 57) dX0_period_48 rfl rfl (fun h_ => ?_) (fun h_ => False.elim (by first | omega | (simp (decide := true) only [au_1, nu_2, au_lt, nu_lt, aw_e, nw_e, au_s, au_n, nu_s, nu_n, au_au, nu_nu, au_nu] at h_; omega)))
              exact y q
            · refine w_if_ne (pc' := 51) (tgt := 57) dX0_period_48 rfl rfl (fun h_ => False.elim (by first | omega | (simp (decide := true) only [au_1, nu_2, au_lt, nu_lt, aw_e, nw_e, au_s, au_n, nu_s, nu_n, au_au, nu_nu, au_nu] at h_; omega))) (fun h_ => ?_)
              exact n q
        refine up (T := fun a => 1 ≤ a → (∀ a', 0 ≤ a' → a' < a → ¬ (1 ≤ a' ∧ cag σ p (if x = 0 then a' else 0) (if x = 0 then 0 else a'))) → tvW mX0_period (d + 4) K 24 [some (xR oR), some (xI p), some (xI x), some (xR (pO p)), some (xI a)] [] G bc bs) (a := 1) 150 (by omega) (fun a0 hn => ?_) (fun a a0 a1 ih _ hn => ?_) (by omega) (fun a' q0 q1 q => by omega)
        · refine body 150 (by omega) (by omega) (fun q => ?_) (fun q => absurd last q)
          rw [fi_hit (P := fun a => 1 ≤ a ∧ cag σ p (if x = 0 then a else 0) (if x = 0 then 0 else a)) (i := 150) (by omega) (by omega) ⟨by omega, q⟩ hn] at h
          refine w_iload (pc' := 59) dX0_period_57 rfl rfl ?_
          -- at 59: .ireturn
          refine w_ireturn dX0_period_59 rfl ?_
          exact h
        · refine body a a0 (by omega) (fun q => ?_) (fun q => ?_)
          · rw [fi_hit (P := fun a => 1 ≤ a ∧ cag σ p (if x = 0 then a else 0) (if x = 0 then 0 else a)) (i := a) (by omega) (by omega) ⟨by omega, q⟩ hn] at h
            refine w_iload (pc' := 59) dX0_period_57 rfl rfl ?_
            -- at 59: .ireturn
            refine w_ireturn dX0_period_59 rfl ?_
            exact h
          · refine w_inc4 (pc' := 54) dX0_period_51 rfl rfl ⟨by first | omega | (simp (decide := true) only [au_1, nu_2, au_lt, nu_lt, aw_e, nw_e, au_s, au_n, nu_s, nu_n, au_au, nu_nu, au_nu]; omega), by first | omega | (simp (decide := true) only [au_1, nu_2, au_lt, nu_lt, aw_e, nw_e, au_s, au_n, nu_s, nu_n, au_au, nu_nu, au_nu]; omega)⟩ ?_
            refine w_goto (tgt := 24) dX0_period_54 rfl ?_
            -- at 24: .aload_n 3
            refine ih (by omega) (fun a' q0 q1 => ?_)
            by_cases e : a' = a
            · rw [e]; exact fun z => q z.2
            · exact hn a' q0 (by omega)
      · exact bad _ (by omega)
  · refine w_ast3 (pc' := 6) dX0_period_5 rfl rfl ?_
    refine w_aload_n (pc' := 7) dX0_period_6 rfl rfl ?_
    -- at 7: .ifnull 12
    refine w_ifnull (pc' := 10) (tgt := 19) dX0_period_7 rfl rfl (fun h_ => ?_) (fun h_ => False.elim (h_ rfl))
    exact bad _ (fun q => g q.1)
end
