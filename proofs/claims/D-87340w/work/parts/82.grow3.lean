set_option maxRecDepth 10000
theorem prw_frl {G G' : GH} {a n : Int} {ρ L O : Int → Int} {C : Int → Int → Int} (hf : ∀ q : Rl, (14 ≤ q.1 ∧ q.1 < 18) → G' q = G q) (hl : ∀ q : Rl, (q.1 = 30 ∨ q.1 = 31) → q.2.1 = a → G' q = G q) (h : prw G a n ρ L O C) : prw G' a n ρ L O C := ⟨lst_of_fr hl h.1, fun i i0 i1 => ⟨row_e (fun t t0 t1 => hf _ ⟨t0, t1⟩) (h.2 i i0 i1).1, (h.2 i i0 i1).2⟩⟩
section
variable {d : Nat} {K : Option XV → GH → Prop} {G : GH} {bc bs : Nat} {σ : MS} {w : RW}
theorem c_X0_grow {p r n : Int} (hw : Rx σ w G) (hK : kok σ) (hR : rok σ) (hP : pok σ) (hQ : qok σ) (hf0 : 0 ≤ σ.1 40) (hc : ∀ i, rg (σ.2 8 i)) (h1 : grwOk σ p r n → ∀ G', tfr G G' → (∀ f g h x y, Rel (sGrow σ (gpN σ r (gp0 σ p) n.toNat) (gpM σ r (σ.2 11 p) n.toNat) f g h x y) G') → K (some (xI (σ.1 12))) G') (h0 : ¬ grwOk σ p r n → ∀ G', tfr G G' → Rel σ G' → K (some (xI (-1))) G') : tvW mX0_grow (d + 8) K 0 [some (xR oR), some (xI p), some (xI r), some (xI n), none, none, none, none, none] [] G 7855 91922 := by
  have hof0 := hw.1
  unfold off at hof0
  have bad : ∀ o o', ¬ grwOk σ p r n → tvW mX0_grow (d + 8) K 57 [some (xR oR), some (xI p), some (xI r), some (xI n), some (xO o), some (xO o'), none, none, none] [] G 7855 91922 := by
    intro o o' q
    refine w_iconst (pc' := 58) dX0_grow_57 rfl (by decide) ?_
    -- at 58: .ireturn
    refine w_ireturn dX0_grow_58 rfl ?_
    exact h0 q G (fun _ _ => rfl) ⟨_, hw⟩
  have hp16 := hP.1
  have mid : ∀ o o', (0 ≤ p ∧ p < σ.1 12) ∧ o = some (pO p) ∨ ¬ (0 ≤ p ∧ p < σ.1 12) ∧ o = none → (0 ≤ r ∧ r < σ.1 29) ∧ o' = some (uO r) ∨ ¬ (0 ≤ r ∧ r < σ.1 29) ∧ o' = none → tvW mX0_grow (d + 8) K 14 [some (xR oR), some (xI p), some (xI r), some (xI n), some (xO o), some (xO o'), none, none, none] [] G 7855 91922 := by
    intro o o' ho ho'
    rcases ho with ⟨hp, rfl⟩ | ⟨g, rfl⟩
    · refine w_aload (pc' := 16) dX0_grow_14 rfl rfl ?_
      -- at 16: .ifnull 41
      refine w_ifnull (pc' := 19) (tgt := 57) dX0_grow_16 rfl rfl (fun h_ => False.elim (nomatch h_)) (fun h_ => ?_)
      rcases ho' with ⟨hr, rfl⟩ | ⟨g, rfl⟩
      · refine w_aload (pc' := 21) dX0_grow_19 rfl rfl ?_
        -- at 21: .ifnull 36
        refine w_ifnull (pc' := 24) (tgt := 57) dX0_grow_21 rfl rfl (fun h_ => False.elim (nomatch h_)) (fun h_ => ?_)
        refine w_iload_n (pc' := 25) dX0_grow_24 rfl rfl ?_
        -- at 25: .ifCond .lt 32
        refine w_if_lt (pc' := 28) (tgt := 57) dX0_grow_25 rfl rfl (fun q1 => ?_) (fun q1 => ?_)
        · exact bad _ _ (fun q => by have := q.1.2.2.1; omega)
        · refine w_iload_n (pc' := 29) dX0_grow_28 rfl rfl ?_
          refine w_iconst (pc' := 30) dX0_grow_29 rfl (by decide) ?_
          -- at 30: .if_icmp .gt 27
          refine w_icmp_gt (pc' := 33) (tgt := 57) dX0_grow_30 rfl rfl (fun q2 => ?_) (fun q2 => ?_)
          · exact bad _ _ (fun q => by have := q.1.2.2.1; omega)
          · obtain ⟨lf0, hl0⟩ := lst_o hw.2.2.2.1.1
            refine w_aload_n (pc' := 34) dX0_grow_33 rfl rfl ?_
            refine w_get 1 (pc' := 37) dX0_grow_34 rfl fX0_16_0 hof0 rfl ?_
            -- at 37: .invokevirtual 54
            refine w_callV0 (pc' := 40) (mc := 0) (ms := 0) dX0_grow_37 rfl tJ2_size q207 rfl rfl q208 q206 hl0 rfl (Nat.le_of_ble_eq_true rfl) (Nat.le_of_ble_eq_true rfl) ?_
            refine c_J2_size hw.2.2.2.1.1 ?_
            refine w_p1 ?_
            refine w_bipush (pc' := 42) dX0_grow_40 rfl (by decide +kernel) (by decide) ?_
            -- at 42: .if_icmp .eq 15
            refine w_icmp_eq (pc' := 45) (tgt := 57) dX0_grow_42 rfl rfl (fun q3 => ?_) (fun q3 => ?_)
            · exact bad _ _ (fun q => by have := q.1.2.2.2; omega)
            · have hn : 0 ≤ n ∧ n ≤ 5 := by omega
              have hnn : ((n.toNat : Nat) : Int) = n := by omega
              have hiff := grw_iff (n := n.toNat) hK hR hP hQ hp hr hc
              rw [hnn] at hiff
              refine w_aload_n (pc' := 46) dX0_grow_45 rfl rfl ?_
              refine w_aload (pc' := 48) dX0_grow_46 rfl rfl ?_
              refine w_aload (pc' := 50) dX0_grow_48 rfl rfl ?_
              refine w_iload_n (pc' := 51) dX0_grow_50 rfl rfl ?_
              -- at 51: .invokevirtual 267
              refine w_callV3 (pc' := 54) (mc := 3200) (ms := 12600) dX0_grow_51 rfl tX0_canGrow q649 rfl rfl qs11 q647 hof0 rfl (Nat.le_of_ble_eq_true rfl) (Nat.le_of_ble_eq_true rfl) ?_
              refine c_X0_canGrow hw hK hR hP hQ hp hr hn (fun hcg G1 f1 w1 => w_p1 ?_) (fun hcg G1 f1 w1 => w_p1 ?_)
              · refine w_if_ne (pc' := 57) (tgt := 59) dX0_grow_54 rfl rfl (fun h_ => ?_) (fun h_ => False.elim (by first | omega | (simp (decide := true) only [au_1, nu_2, au_lt, nu_lt, aw_e, nw_e, au_s, au_n, nu_s, nu_n, au_au, nu_nu, au_nu] at h_; omega)))
                clear bad
                have hok := hiff.mpr hcg
                have t1 : tfr G G1 := fun q hq => f1 q (by omega) (fun z => by rw [z] at hq; simp only [] at hq; omega) (by omega)
                have hq := hQ.2 r hr.1 hr.2
                have hM := (hP.2 p hp.1 hp.2).1
                have hmd := hR.1
                have g0 := gpok_0 hR hP hp hc
                have hMn := hcg.1
                have gM : ∀ s : Nat, (s : Int) ≤ n → 0 ≤ gpM σ r (σ.2 11 p) s ∧ gpM σ r (σ.2 11 p) s ≤ 60 := by
                  intro s hs
                  have z := gpM_mono (σ := σ) (r := r) (M := σ.2 11 p) (by omega) hM.1 s (n.toNat - s)
                  rw [show s + (n.toNat - s) = n.toNat by omega] at z
                  omega
                have hgn := (ly_gst hK hQ hr g0 n.toNat (fun j hj => hok j (by omega))).1
                have hMnn := gM n.toNat (by omega)
                have hMn0 := (gpM_mono (σ := σ) (r := r) (M := σ.2 11 p) (by omega) hM.1 0 n.toNat).2
                rw [Nat.zero_add] at hMn0
                have hMn0 : σ.2 11 p ≤ gpM σ r (σ.2 11 p) n.toNat := hMn0
                obtain ⟨pl, cl, N, b, rg⟩ := w
                obtain ⟨hx1, hx2, hx3, hx4, hx5, hx6, hx7, hx8, hx9, hx10, hx11⟩ := Rx_un w1
                have hof1 := hx1
                unfold off at hof1
                have hN := hx11.1
                have hpl := hx11.2.2.1 p hp.1 hp.2
                obtain ⟨hPo, hPl⟩ := hx4.2 p hp.1 hp.2
                obtain ⟨lf, hlO⟩ := lst_o hPl
                have hpr := Rx_prw w1 hR hP hp.1 hp.2
                obtain ⟨H, W, eH, eW, hU⟩ := hx7.2 r hr.1 hr.2
                have hro := hU.1
                refine w_aload (pc' := 61) dX0_grow_59 rfl rfl ?_
                refine w_get 0 (pc' := 64) dX0_grow_61 rfl fX0_140_3 hPo rfl ?_
                -- at 64: .invokevirtual 54
                refine w_callV0 (pc' := 67) (mc := 0) (ms := 0) dX0_grow_64 rfl tJ2_size q207 rfl rfl q208 q206 hlO rfl (Nat.le_of_ble_eq_true rfl) (Nat.le_of_ble_eq_true rfl) ?_
                refine c_J2_size hPl ?_
                refine w_p1 ?_
                refine w_ist6 (pc' := 69) dX0_grow_67 rfl rfl ?_
                refine w_iconst (pc' := 70) dX0_grow_69 rfl (by decide) ?_
                refine w_ist7 (pc' := 72) dX0_grow_70 rfl rfl ?_
                -- at 72: .iload 7
                refine up (T := fun k => 0 ≤ k → tvW mX0_grow (d + 8) K 72 [some (xR oR), some (xI p), some (xI r), some (xI n), some (xR (pO p)), some (xR (uO r)), (some (xI (gpM σ r (σ.2 11 p) k.toNat))), (some (xI k)), none] [] G1 4655 79322) (a := 0) n hn.1 ?_ ?_ (Int.le_refl _)
                · intro _
                  obtain ⟨c, ec⟩ : ∃ c : Nat, (c : Int) = gpM σ r (σ.2 11 p) n.toNat := ⟨(gpM σ r (σ.2 11 p) n.toNat).toNat, by omega⟩
                  refine w_iload (pc' := 74) dX0_grow_72 rfl rfl ?_
                  refine w_iload_n (pc' := 75) dX0_grow_74 rfl rfl ?_
                  -- at 75: .if_icmp .ge 19
                  refine w_icmp_ge (pc' := 78) (tgt := 94) dX0_grow_75 rfl rfl (fun h_ => ?_) (fun h_ => False.elim (by first | omega | (simp (decide := true) only [au_1, nu_2, au_lt, nu_lt, aw_e, nw_e, au_s, au_n, nu_s, nu_n, au_au, nu_nu, au_nu] at h_; omega)))
                  refine w_aload_n (pc' := 95) dX0_grow_94 rfl rfl ?_
                  refine w_iload (pc' := 97) dX0_grow_95 rfl rfl ?_
                  -- at 97: .invokevirtual 154
                  refine w_callV1 (pc' := 100) (mc := 0) (ms := 0) dX0_grow_97 rfl tX0_canMake q379 rfl rfl qs5 q377 hof1 rfl (Nat.le_of_ble_eq_true rfl) (Nat.le_of_ble_eq_true rfl) ?_
                  refine c_X0_canMake w1 hR (fun c1 => w_p1 ?_) (fun c1 => w_p1 ?_)
                  · refine w_if_ne (pc' := 103) (tgt := 105) dX0_grow_100 rfl rfl (fun h_ => ?_) (fun h_ => False.elim (by first | omega | (simp (decide := true) only [au_1, nu_2, au_lt, nu_lt, aw_e, nw_e, au_s, au_n, nu_s, nu_n, au_au, nu_nu, au_nu] at h_; omega)))
                    have hgr : grwOk σ p r n := ⟨⟨hp, hr, hn, by omega⟩, hok, c1⟩
                    have hfN : ∀ (t : Nat) (z j : Int), t = 30 ∨ t = 31 → N ≤ z → G1 (t, z, j) = none := fun t z j ht hz => fre_iff.mp hx10 _ (Or.inl ⟨by simp only []; omega, by simp only []; omega, hz⟩)
                    have hfR : ∀ (t : Nat) (z : Int), 14 ≤ t → t < 18 → σ.1 9 ≤ z ∨ z < -N → G1 (t, z, 0) = none := by
                      intro t z t0 t1 hz
                      refine fre_iff.mp hx10 _ ?_
                      unfold frq
                      simp only []
                      omega
                    have hfN0 := hfN 30 N 0 (Or.inl rfl) (Int.le_refl _)
                    refine w_new (N := 3) (lO N) (pc' := 108) dX0_grow_105 rfl nX0_7 (by assumption) (by first | assumption | simp) ?_
                    -- at 108: .dup
                    refine w_upd (fun G2 a2 f2 => ?_)
                    refine w_dup (pc' := 109) dX0_grow_108 rfl rfl ?_
                    refine w_iload (pc' := 111) dX0_grow_109 rfl rfl ?_
                    -- at 111: .invokespecial 254
                    rw [← ec]
                    refine w_callI1 (pc' := 114) (mc := 1) (ms := 60) dX0_grow_111 rfl tJ2_init_3 rfl rfl q665 (Or.inl q664) rfl (Nat.le_of_ble_eq_true rfl) (Nat.le_of_ble_eq_true rfl) ?_
                    refine c_J2_initC (f := fun k => some (rO (rid n (σ.1 9) N 0 k))) a2 (fun j => (f2 _ (rl_ne (by omega))).trans (hfN 31 N j (Or.inr rfl) (Int.le_refl _))) (by omega) (fun G3 f3 l3 => w_p0 ?_)
                    have ch3 : ∀ z : Rl, ¬ ((z.1 = 30 ∨ z.1 = 31) ∧ z.2.1 = N) → G3 z = G1 z := fun z hz => (f3 z hz).trans (f2 z (fun y => hz (by rw [y]; exact ⟨Or.inl rfl, rfl⟩)))
                    rw [ec]
                    refine w_ast7 (pc' := 116) dX0_grow_114 rfl rfl ?_
                    -- at 116: .iconst 0
                    have hrid : ∀ k i, 0 ≤ k → k ≤ n → 0 ≤ i → σ.1 9 ≤ rid n (σ.1 9) N k i ∨ rid n (σ.1 9) N k i < -N := by
                      intro k i k0 k1 i0
                      unfold rid
                      split <;> omega
                    refine c_X0_grow_c (id := rid n (σ.1 9) N 0) (mc := 4413) (ms := 68219) (ch3 oR (by simp only []; omega) |>.trans hx1) ((ch3 _ (by simp only []; omega)).trans hPo) (prw_frl (fun q q1 => ch3 q (by omega)) (fun q q1 q2 => ch3 q (by omega)) hpr) (by omega) l3 hM (by omega) (fun t i t0 t1 i0 i1 => (ch3 _ (by simp only []; omega)).trans (hfR t _ t0 t1 (hrid 0 i (Int.le_refl _) hn.1 i0))) (fun i j i0 i1 j0 j1 e => by unfold rid at e; split at e <;> omega) (fun i j i0 i1 j0 j1 e => ?_) (fun G4 f4 l4 r4 => ?_)
                    · have hrw := (hP.2 p hp.1 hp.2).2 j j0 j1
                      have := hrid 0 i (Int.le_refl _) hn.1 i0
                      omega
                    · have ch4 : ∀ z : Rl, ¬ ((14 ≤ z.1 ∧ z.1 < 18) ∧ ∃ i, 0 ≤ i ∧ i < σ.2 11 p ∧ z.2.1 = rid n (σ.1 9) N 0 i) → ¬ ((z.1 = 30 ∨ z.1 = 31) ∧ z.2.1 = N) → G4 z = G1 z := fun z z1 z2 => (f4 z z1 z2).trans (ch3 z z2)
                      have hid0 : ∀ i, 0 ≤ i → i < σ.2 11 p → (σ.1 9 ≤ rid n (σ.1 9) N 0 i ∧ rid n (σ.1 9) N 0 i < σ.1 9 + gpM σ r (σ.2 11 p) n.toNat) ∨ -(N + 400) ≤ rid n (σ.1 9) N 0 i ∧ rid n (σ.1 9) N 0 i < -N := by
                        intro i i0 i1
                        unfold rid
                        split <;> omega
                      refine c_X0_grow_n (P := gp0 σ p) (m := σ.2 11 p) hx1 hx2 hK hQ hr eH eW hn hN hmd.1 hM.1 g0 hok hMn (G := G1) ⟨fun z z1 z2 z3 z4 => ch4 z (fun y => ?_) (by omega), ?_, ?_, r4, fun t i j t0 t1 j0 j1 i0 i1 => ?_, fun t z j t0 z0 z1 => ?_⟩ (fun Gn v8 sn => ?_)
                      · obtain ⟨y1, i, i0, i1, e⟩ := y
                        have := hid0 i i0 i1
                        rw [← e] at this
                        exact z1 ⟨y1, this⟩
                      · exact rul_fr (ch4 _ (fun y => by have := y.1; simp only [] at this; omega) (by simp only []; omega)) (ch4 _ (fun y => by have := y.1; simp only [] at this; omega) (by simp only []; omega)) (fun k k0 k1 z z1 z2 => ch4 z (fun y => by have := y.1; omega) (by omega)) hU
                      · rw [Int.add_zero]
                        exact l4
                      · have hg := gM j.toNat (by omega)
                        refine (ch4 _ (fun y => ?_) (by simp only []; omega)).trans (hfR t _ t0 t1 (hrid j i (by omega) j1 i0))
                        obtain ⟨-, i', i0', i1', e⟩ := y
                        simp only [] at e
                        unfold rid at e
                        rw [if_neg (show ¬ (0 : Int) = n by omega)] at e
                        split at e <;> omega
                      · exact (ch4 _ (fun y => by have := y.1; simp only [] at this; omega) (by simp only []; omega)).trans (hfN t z j t0 (by omega))
                      · exact c_X0_grow_e w1 hK hR hP hQ hf0 (by omega) hr eH eW hn hM.1 hgn hMnn c1 sn (fun G' t' r' => h1 hgr G' (fun q hq => (t' q hq).trans (t1 q hq)) r')
                  · refine w_if_ne (pc' := 103) (tgt := 105) dX0_grow_100 rfl rfl (fun h_ => False.elim (by first | omega | (simp (decide := true) only [au_1, nu_2, au_lt, nu_lt, aw_e, nw_e, au_s, au_n, nu_s, nu_n, au_au, nu_nu, au_nu] at h_; omega))) (fun h_ => ?_)
                    refine w_iconst (pc' := 104) dX0_grow_103 rfl (by decide) ?_
                    -- at 104: .ireturn
                    refine w_ireturn dX0_grow_104 rfl ?_
                    exact h0 (fun z => c1 z.2.2) G1 t1 ⟨_, w1⟩
                · intro k k0 k1 ih _
                  have gk := gM k.toNat (by omega)
                  have gk1 := gM (k.toNat + 1) (by omega)
                  have e1 : gpM σ r (σ.2 11 p) (k + 1).toNat = gpM σ r (σ.2 11 p) k.toNat * σ.2 26 r := by rw [show (k + 1).toNat = k.toNat + 1 by omega]; rfl
                  rw [show k.toNat + 1 = (k + 1).toNat by omega, e1, ← eH] at gk1
                  rw [e1, ← eH] at ih
                  refine w_iload (pc' := 74) dX0_grow_72 rfl rfl ?_
                  refine w_iload_n (pc' := 75) dX0_grow_74 rfl rfl ?_
                  -- at 75: .if_icmp .ge 19
                  refine w_icmp_ge (pc' := 78) (tgt := 94) dX0_grow_75 rfl rfl (fun h_ => False.elim (by first | omega | (simp (decide := true) only [au_1, nu_2, au_lt, nu_lt, aw_e, nw_e, au_s, au_n, nu_s, nu_n, au_au, nu_nu, au_nu] at h_; omega))) (fun h_ => ?_)
                  refine w_iload (pc' := 80) dX0_grow_78 rfl rfl ?_
                  refine w_aload (pc' := 82) dX0_grow_80 rfl rfl ?_
                  refine w_get 0 (pc' := 85) dX0_grow_82 rfl fX0_229_7 hro rfl ?_
                  refine w_imul (pc' := 86) dX0_grow_85 rfl ⟨by first | omega | (simp (decide := true) only [au_1, nu_2, au_lt, nu_lt, aw_e, nw_e, au_s, au_n, nu_s, nu_n, au_au, nu_nu, au_nu]; omega), by first | omega | (simp (decide := true) only [au_1, nu_2, au_lt, nu_lt, aw_e, nw_e, au_s, au_n, nu_s, nu_n, au_au, nu_nu, au_nu]; omega)⟩ ?_
                  refine w_ist6 (pc' := 88) dX0_grow_86 rfl rfl ?_
                  refine w_inc7 (pc' := 91) dX0_grow_88 rfl rfl ⟨by first | omega | (simp (decide := true) only [au_1, nu_2, au_lt, nu_lt, aw_e, nw_e, au_s, au_n, nu_s, nu_n, au_au, nu_nu, au_nu]; omega), by first | omega | (simp (decide := true) only [au_1, nu_2, au_lt, nu_lt, aw_e, nw_e, au_s, au_n, nu_s, nu_n, au_au, nu_nu, au_nu]; omega)⟩ ?_
                  refine w_goto (tgt := 72) dX0_grow_91 rfl ?_
                  -- at 72: .iload 7
                  exact ih (by omega)
              · refine w_if_ne (pc' := 57) (tgt := 59) dX0_grow_54 rfl rfl (fun h_ => False.elim (by first | omega | (simp (decide := true) only [au_1, nu_2, au_lt, nu_lt, aw_e, nw_e, au_s, au_n, nu_s, nu_n, au_au, nu_nu, au_nu] at h_; omega))) (fun h_ => ?_)
                refine w_iconst (pc' := 58) dX0_grow_57 rfl (by decide) ?_
                -- at 58: .ireturn
                refine w_ireturn dX0_grow_58 rfl ?_
                refine h0 (fun z => hcg (hiff.mp z.2.1)) G1 (fun q hq => f1 q (by omega) (fun z => by rw [z] at hq; simp only [] at hq; omega) (by omega)) ⟨_, w1⟩
      · refine w_aload (pc' := 21) dX0_grow_19 rfl rfl ?_
        -- at 21: .ifnull 36
        refine w_ifnull (pc' := 24) (tgt := 57) dX0_grow_21 rfl rfl (fun h_ => ?_) (fun h_ => False.elim (h_ rfl))
        exact bad _ _ (fun q => g q.1.2.1)
    · refine w_aload (pc' := 16) dX0_grow_14 rfl rfl ?_
      -- at 16: .ifnull 41
      refine w_ifnull (pc' := 19) (tgt := 57) dX0_grow_16 rfl rfl (fun h_ => ?_) (fun h_ => False.elim (h_ rfl))
      exact bad _ _ (fun q => g q.1.1)
  refine w_aload_n (pc' := 1) dX0_grow_0 rfl rfl ?_
  refine w_iload_n (pc' := 2) dX0_grow_1 rfl rfl ?_
  -- at 2: .invokevirtual 150
  refine w_callV1 (pc' := 5) (mc := 0) (ms := 0) dX0_grow_2 rfl tX0_pattern_2 q375 rfl rfl qs4 q373 hof0 rfl (Nat.le_of_ble_eq_true rfl) (Nat.le_of_ble_eq_true rfl) ?_
  refine c_X0_pattern_2 hw (fun p0 p1 => w_p1 ?_) (fun g => w_p1 ?_)
  · refine w_ast4 (pc' := 7) dX0_grow_5 rfl rfl ?_
    refine w_aload_n (pc' := 8) dX0_grow_7 rfl rfl ?_
    refine w_iload_n (pc' := 9) dX0_grow_8 rfl rfl ?_
    -- at 9: .invokevirtual 225
    refine w_callV1 (pc' := 12) (mc := 0) (ms := 0) dX0_grow_9 rfl tX0_rule_2 q636 rfl rfl qs10 q634 hof0 rfl (Nat.le_of_ble_eq_true rfl) (Nat.le_of_ble_eq_true rfl) ?_
    refine c_X0_rule_2 hw (fun r0 r1 => w_p1 ?_) (fun g => w_p1 ?_)
    · refine w_ast5 (pc' := 14) dX0_grow_12 rfl rfl ?_
      -- at 14: .aload 4
      exact mid _ _ (Or.inl ⟨⟨p0, p1⟩, rfl⟩) (Or.inl ⟨⟨r0, r1⟩, rfl⟩)
    · refine w_ast5 (pc' := 14) dX0_grow_12 rfl rfl ?_
      -- at 14: .aload 4
      exact mid _ _ (Or.inl ⟨⟨p0, p1⟩, rfl⟩) (Or.inr ⟨g, rfl⟩)
  · refine w_ast4 (pc' := 7) dX0_grow_5 rfl rfl ?_
    refine w_aload_n (pc' := 8) dX0_grow_7 rfl rfl ?_
    refine w_iload_n (pc' := 9) dX0_grow_8 rfl rfl ?_
    -- at 9: .invokevirtual 225
    refine w_callV1 (pc' := 12) (mc := 0) (ms := 0) dX0_grow_9 rfl tX0_rule_2 q636 rfl rfl qs10 q634 hof0 rfl (Nat.le_of_ble_eq_true rfl) (Nat.le_of_ble_eq_true rfl) ?_
    refine c_X0_rule_2 hw (fun r0 r1 => w_p1 ?_) (fun g2 => w_p1 ?_)
    · refine w_ast5 (pc' := 14) dX0_grow_12 rfl rfl ?_
      -- at 14: .aload 4
      exact mid _ _ (Or.inr ⟨g, rfl⟩) (Or.inl ⟨⟨r0, r1⟩, rfl⟩)
    · refine w_ast5 (pc' := 14) dX0_grow_12 rfl rfl ?_
      -- at 14: .aload 4
      exact mid _ _ (Or.inr ⟨g, rfl⟩) (Or.inr ⟨g2, rfl⟩)
end
