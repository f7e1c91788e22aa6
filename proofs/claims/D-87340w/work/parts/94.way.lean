set_option maxRecDepth 10000
theorem nf1 {σ : MS} {f pl : Int} {b l : Int → Int} (hk : 0 ≤ σ.1 5) (h : nfB σ f b l pl = 1) : 0 ≤ fi (fun n => cdB σ f b l pl n) (8 * σ.1 5) ∧ fi (fun n => cdB σ f b l pl n) (8 * σ.1 5) < 8 * σ.1 5 ∧ cdB σ f b l pl (fi (fun n => cdB σ f b l pl n) (8 * σ.1 5)) := by
  rcases fi_r (P := fun n => cdB σ f b l pl n) (n := 8 * σ.1 5) with z | z
  · exfalso
    have hno : ∀ n, 0 ≤ n → n < 8 * σ.1 5 → ¬ cdB σ f b l pl n := by
      intro n n0 n1 hc
      have key : ∀ m : Nat, (∃ j : Int, 0 ≤ j ∧ j < m ∧ cdB σ f b l pl j) → ∃ j : Int, (0 ≤ j ∧ j < m) ∧ cdB σ f b l pl j ∧ ∀ i, 0 ≤ i → i < j → ¬ cdB σ f b l pl i := by
        intro m
        induction m with
        | zero => rintro ⟨j, j0, j1, -⟩; omega
        | succ m ih =>
          rintro ⟨j, j0, j1, j2⟩
          by_cases q : ∃ j : Int, 0 ≤ j ∧ j < m ∧ cdB σ f b l pl j
          · obtain ⟨i, i0, i1⟩ := ih q
            exact ⟨i, ⟨i0.1, by omega⟩, i1⟩
          · exact ⟨j, ⟨j0, by omega⟩, j2, fun i i0 i1 i2 => q ⟨i, i0, by omega, i2⟩⟩
      obtain ⟨j, ⟨j0, j1⟩, j2, j3⟩ := key (8 * σ.1 5).toNat ⟨n, n0, by omega, hc⟩
      rw [fi_hit j0 (by omega) j2 j3] at z
      omega
    have := sm_zz (f := fun n => b1 (cdB σ f b l pl n)) (n := 8 * σ.1 5) (fun i i0 i1 => b1_f (hno i i0 i1))
    unfold nfB at h
    omega
  · exact z
theorem rd1_r {σ : MS} {f pl : Int} {b l : Int → Int} (hk : 0 ≤ σ.1 5) : (0 ≤ rd1 σ f b l pl ↔ opB σ f pl ∧ b pl = 0 ∧ nfB σ f b l pl = 1) ∧ (0 ≤ rd1 σ f b l pl → rd1 σ f b l pl = fi (fun n => cdB σ f b l pl n) (8 * σ.1 5) ∧ rd1 σ f b l pl < 8 * σ.1 5) := by
  unfold rd1
  by_cases q : opB σ f pl ∧ b pl = 0 ∧ nfB σ f b l pl = 1
  · have := nf1 hk q.2.2
    rw [ic_t q]
    exact ⟨⟨fun _ => q, fun _ => this.1⟩, fun _ => ⟨rfl, this.2.1⟩⟩
  · rw [ic_f q]
    exact ⟨⟨fun z => by omega, fun z => absurd z q⟩, fun z => by omega⟩
/-- what a round keeps -/
theorem rdN_ok {σ : MS} {f : Int} {b l : Int → Int} (hk : 0 ≤ σ.1 5) (hR : σ.2 35 f ≤ 8) (hb : bok σ f b) (hl : lok σ l) : ∀ m : Nat, bok σ f (rdN σ f (rd1 σ f b l) (b, l, 0) m).1 ∧ lok σ (rdN σ f (rd1 σ f b l) (b, l, 0) m).2.1 ∧ (0 ≤ (rdN σ f (rd1 σ f b l) (b, l, 0) m).2.2 ∧ (rdN σ f (rd1 σ f b l) (b, l, 0) m).2.2 ≤ m) ∧ ne_ σ f (rdN σ f (rd1 σ f b l) (b, l, 0) m).1 + (rdN σ f (rd1 σ f b l) (b, l, 0) m).2.2 = ne_ σ f b := by
  intro m
  induction m with
  | zero => exact ⟨hb, hl, ⟨Int.le_refl _, Int.le_refl _⟩, Int.add_zero _⟩
  | succ m ih =>
    have hi := rdN_hi (σ := σ) (f := f) (T := rd1 σ f b l) (X := (b, l, 0)) m m (Int.le_refl _)
    show bok σ f (stF σ f (rd1 σ f b l) m (rdN σ f (rd1 σ f b l) (b, l, 0) m)).1 ∧ lok σ (stF σ f (rd1 σ f b l) m (rdN σ f (rd1 σ f b l) (b, l, 0) m)).2.1 ∧ (0 ≤ (stF σ f (rd1 σ f b l) m (rdN σ f (rd1 σ f b l) (b, l, 0) m)).2.2 ∧ (stF σ f (rd1 σ f b l) m (rdN σ f (rd1 σ f b l) (b, l, 0) m)).2.2 ≤ ((m + 1 : Nat) : Int)) ∧ ne_ σ f (stF σ f (rd1 σ f b l) m (rdN σ f (rd1 σ f b l) (b, l, 0) m)).1 + (stF σ f (rd1 σ f b l) m (rdN σ f (rd1 σ f b l) (b, l, 0) m)).2.2 = ne_ σ f b
    generalize rdN σ f (rd1 σ f b l) (b, l, 0) m = X at *
    obtain ⟨i1, i2, i3, i4⟩ := ih
    by_cases q : stQ σ f (rd1 σ f b l) m X
    · obtain ⟨q1, q2, q3, q4⟩ := id q
      obtain ⟨r1, r2⟩ := rd1_r (σ := σ) (f := f) (pl := m) (b := b) (l := l) hk
      obtain ⟨-, bz, -⟩ := r1.mp q2
      obtain ⟨-, r2⟩ := r2 q2
      have hi : X.1 m = 0 := by rw [hi]; exact bz
      rw [stF_t q]
      generalize rd1 σ f b l m = t at *
      have hlt := i2 (t / 8) (by omega) (by omega)
      refine ⟨fun z z0 z1 z2 => ?_, fun z z0 z1 => ?_, ⟨?_, ?_⟩, ?_⟩
      · show 0 ≤ iset X.1 m (t + 1) z ∧ iset X.1 m (t + 1) z ≤ 8 * σ.1 5
        unfold iset
        split
        · omega
        · exact i1 z z0 z1 z2
      · show 0 ≤ iset X.2.1 (t / 8) (X.2.1 (t / 8) - 1) z ∧ iset X.2.1 (t / 8) (X.2.1 (t / 8) - 1) z ≤ 99
        unfold iset
        split
        · omega
        · exact i2 z z0 z1
      · show 0 ≤ X.2.2 + 1
        omega
      · show X.2.2 + 1 ≤ ((m + 1 : Nat) : Int)
        omega
      · show ne_ σ f (iset X.1 m (t + 1)) + (X.2.2 + 1) = ne_ σ f b
        rw [ne_set (by omega) (by have := q1.1; omega) q1 hi (by omega)]
        omega
    · rw [stF_f q]
      exact ⟨i1, i2, ⟨i3.1, by omega⟩, i4⟩
section
variable {d : Nat} {K : Option XV → GH → Prop} {G : GH} {bc bs : Nat} {σ : MS} {f : Int} {H W : Nat} {b l g : Int → Int}
theorem c_X10_way {i j : Int} (hS : flR σ f H W b G) (hK : kok σ) (hF : fo1 σ) (hf : 0 ≤ f ∧ f < σ.1 40) (eH : (H : Int) = σ.2 35 f) (eW : (W : Int) = σ.2 36 f) (hb : bok σ f b) (hl : lok σ l) (hg : G (25, f, 1) = some (xar 0 40 g)) (hgl : ∀ k, 0 ≤ k → k < σ.1 5 → g k = l k) (hi : 0 ≤ i ∧ i < 8) (hj : 0 ≤ j ∧ j < 8) (hn : nfB σ f b l (8 * i + j) = 1) (h : K (some (xI (fi (fun n => cdB σ f b l (8 * i + j) n) (8 * σ.1 5)))) G) : tvW mX10_way (d + 5) K 0 [some (xR (fO f)), some (xI i), some (xI j), none, none] [] G bc bs := by
  have hk1 := hK.1
  obtain ⟨⟨u, ma, li, rg, hof⟩, hkin, ⟨z0, z1, z2, z3, z4, z5, z6, z7, z8, z9, hO⟩, -⟩ := id hS
  unfold off at hof
  obtain ⟨lf, hlO⟩ := lst_o hkin.1
  obtain ⟨w1, w2, w3⟩ := nf1 hk1.1 hn
  have hcd : ∀ k m, 0 ≤ m → m < 8 → (cdB σ f b l (8 * i + j) (8 * k + m) ↔ 0 < l k ∧ lie (σ.2 3 k) (σ.2 1 k) m = m ∧ mlB σ f b (8 * i + j) (8 * k + m + 1)) := by
    intro k m m0 m1
    unfold cdB
    rw [show (8 * k + m) / 8 = k by omega, show (8 * k + m) % 8 = m by omega]
  refine w_iconst (pc' := 1) dX10_way_0 rfl (by decide) ?_
  refine w_ist3 (pc' := 2) dX10_way_1 rfl rfl ?_
  -- at 2: .iload_n 3
  refine up (T := fun k => 0 ≤ k → ∀ v4 : Option XV, (∀ n, 0 ≤ n → n < 8 * k → ¬ cdB σ f b l (8 * i + j) n) → tvW mX10_way (d + 5) K 2 [some (xR (fO f)), some (xI i), some (xI j), some (xI k), v4] [] G bc bs) (a := 0) (σ.1 5) hk1.1 ?_ ?_ (Int.le_refl _) none (fun n n0 n1 => by omega)
  · intro _ v4 hno
    exact absurd w3 (hno _ w1 w2)
  · intro k k0 k1 ih _ v4 hno
    have hlk := hl k k0 k1
    have hgk := hgl k k0 k1
    have tl := hkin.2 k k0 k1
    obtain ⟨-, tT, -, -⟩ := hK.2 k k0 k1
    refine w_iload_n (pc' := 3) dX10_way_2 rfl rfl ?_
    refine w_aload_n (pc' := 4) dX10_way_3 rfl rfl ?_
    refine w_get 19 (pc' := 7) dX10_way_4 rfl fX10_3_8 hO rfl ?_
    refine w_get 0 (pc' := 10) dX10_way_7 rfl fX10_52_0 hof rfl ?_
    -- at 10: .invokevirtual 72
    refine w_callV0 (pc' := 13) (mc := 0) (ms := 0) dX10_way_10 rfl tJ2_size q207 rfl rfl q208 q980 hlO rfl (Nat.le_of_ble_eq_true rfl) (Nat.le_of_ble_eq_true rfl) ?_
    refine c_J2_size hkin.1 ?_
    refine w_p1 ?_
    refine w_icmp_ge (pc' := 16) (tgt := 91) dX10_way_13 rfl rfl (fun h_ => False.elim (by first | omega | (simp (decide := true) only [au_1, nu_2, au_lt, nu_lt, aw_e, nw_e, au_s, au_n, nu_s, nu_n, au_au, nu_nu, au_nu] at h_; omega))) (fun h_ => ?_)
    refine w_iconst (pc' := 17) dX10_way_16 rfl (by decide) ?_
    refine w_ist4 (pc' := 19) dX10_way_17 rfl rfl ?_
    -- at 19: .iload 4
    refine up (T := fun m => 0 ≤ m → (∀ n, 0 ≤ n → n < 8 * k + m → ¬ cdB σ f b l (8 * i + j) n) → tvW mX10_way (d + 5) K 19 [some (xR (fO f)), some (xI i), some (xI j), some (xI k), some (xI m)] [] G bc bs) (a := 0) 8 (by omega) ?_ ?_ (Int.le_refl _) (fun n n0 n1 => hno n n0 (by omega))
    · intro _ hno
      refine w_iload (pc' := 21) dX10_way_19 rfl rfl ?_
      refine w_bipush (pc' := 23) dX10_way_21 rfl (by decide +kernel) (by decide) ?_
      -- at 23: .if_icmp .ge 62
      refine w_icmp_ge (pc' := 26) (tgt := 85) dX10_way_23 rfl rfl (fun h_ => ?_) (fun h_ => False.elim (by first | omega | (simp (decide := true) only [au_1, nu_2, au_lt, nu_lt, aw_e, nw_e, au_s, au_n, nu_s, nu_n, au_au, nu_nu, au_nu] at h_; omega)))
      refine w_inc3 (pc' := 88) dX10_way_85 rfl rfl ⟨by first | omega | (simp (decide := true) only [au_1, nu_2, au_lt, nu_lt, aw_e, nw_e, au_s, au_n, nu_s, nu_n, au_au, nu_nu, au_nu]; omega), by first | omega | (simp (decide := true) only [au_1, nu_2, au_lt, nu_lt, aw_e, nw_e, au_s, au_n, nu_s, nu_n, au_au, nu_nu, au_nu]; omega)⟩ ?_
      refine w_goto (tgt := 2) dX10_way_88 rfl ?_
      -- at 2: .iload_n 3
      exact ih (by omega) _ (fun n n0 n1 => hno n n0 (by omega))
    · intro m m0 m1 ihm _ hno
      have no : ¬ cdB σ f b l (8 * i + j) (8 * k + m) → tvW mX10_way (d + 5) K 79 [some (xR (fO f)), some (xI i), some (xI j), some (xI k), some (xI m)] [] G bc bs := by
        intro q
        refine w_inc4 (pc' := 82) dX10_way_79 rfl rfl ⟨by first | omega | (simp (decide := true) only [au_1, nu_2, au_lt, nu_lt, aw_e, nw_e, au_s, au_n, nu_s, nu_n, au_au, nu_nu, au_nu]; omega), by first | omega | (simp (decide := true) only [au_1, nu_2, au_lt, nu_lt, aw_e, nw_e, au_s, au_n, nu_s, nu_n, au_au, nu_nu, au_nu]; omega)⟩ ?_
        refine w_goto (tgt := 19) dX10_way_82 rfl ?_
        -- at 19: .iload 4
        refine ihm (by omega) (fun n n0 n1 => ?_)
        by_cases e : n = 8 * k + m
        · rw [e]
          exact q
        · exact hno n n0 (by omega)
      refine w_iload (pc' := 21) dX10_way_19 rfl rfl ?_
      refine w_bipush (pc' := 23) dX10_way_21 rfl (by decide +kernel) (by decide) ?_
      -- at 23: .if_icmp .ge 62
      refine w_icmp_ge (pc' := 26) (tgt := 85) dX10_way_23 rfl rfl (fun h_ => False.elim (by first | omega | (simp (decide := true) only [au_1, nu_2, au_lt, nu_lt, aw_e, nw_e, au_s, au_n, nu_s, nu_n, au_au, nu_nu, au_nu] at h_; omega))) (fun h_ => ?_)
      refine w_aload_n (pc' := 27) dX10_way_26 rfl rfl ?_
      refine w_get 4 (pc' := 30) dX10_way_27 rfl fX10_19_8 hO rfl ?_
      refine w_iload_n (pc' := 31) dX10_way_30 rfl rfl ?_
      refine w_iald (pc' := 32) dX10_way_31 rfl hg k0 (by omega) ?_
      -- at 32: .ifCond .le 53
      rw [hgk]
      refine w_if_le (pc' := 35) (tgt := 85) dX10_way_32 rfl rfl (fun q => ?_) (fun q => ?_)
      · refine w_inc3 (pc' := 88) dX10_way_85 rfl rfl ⟨by first | omega | (simp (decide := true) only [au_1, nu_2, au_lt, nu_lt, aw_e, nw_e, au_s, au_n, nu_s, nu_n, au_au, nu_nu, au_nu]; omega), by first | omega | (simp (decide := true) only [au_1, nu_2, au_lt, nu_lt, aw_e, nw_e, au_s, au_n, nu_s, nu_n, au_au, nu_nu, au_nu]; omega)⟩ ?_
        refine w_goto (tgt := 2) dX10_way_88 rfl ?_
        -- at 2: .iload_n 3
        refine ih (by omega) _ (fun n n0 n1 y => ?_)
        by_cases e : n < 8 * k + m
        · exact hno n n0 e y
        · have y1 := y.1
          rw [show n / 8 = k by omega] at y1
          omega
      · refine w_aload_n (pc' := 36) dX10_way_35 rfl rfl ?_
        refine w_get 19 (pc' := 39) dX10_way_36 rfl fX10_3_8 hO rfl ?_
        refine w_get 0 (pc' := 42) dX10_way_39 rfl fX10_52_0 hof rfl ?_
        refine w_iload_n (pc' := 43) dX10_way_42 rfl rfl ?_
        -- at 43: .invokevirtual 56
        refine w_callV1 (pc' := 46) (mc := 0) (ms := 0) dX10_way_43 rfl tJ2_get q211 rfl rfl q212 q952 hlO rfl (Nat.le_of_ble_eq_true rfl) (Nat.le_of_ble_eq_true rfl) ?_
        refine c_J2_get hkin.1 ⟨k0, k1⟩ ?_
        refine w_p1 ?_
        refine w_cast (pc' := 49) dX10_way_46 rfl tl.1 rfl q953 ?_
        refine w_iload (pc' := 51) dX10_way_49 rfl rfl ?_
        -- at 51: .invokevirtual 76
        refine w_callV1 (pc' := 54) (mc := 0) (ms := 0) dX10_way_51 rfl tX2_lies q327 rfl rfl q328 q954 tl.1 rfl (Nat.le_of_ble_eq_true rfl) (Nat.le_of_ble_eq_true rfl) ?_
        refine c_X2_lies tl tT ⟨m0, m1⟩ ?_
        refine w_p1 ?_
        refine w_iload (pc' := 56) dX10_way_54 rfl rfl ?_
        -- at 56: .if_icmp .ne 23
        refine w_icmp_ne (pc' := 59) (tgt := 79) dX10_way_56 rfl rfl (fun q2 => ?_) (fun q2 => ?_)
        · exact no (fun y => q2 ((hcd k m m0 m1).mp y).2.1)
        · refine w_aload_n (pc' := 60) dX10_way_59 rfl rfl ?_
          refine w_iload_n (pc' := 61) dX10_way_60 rfl rfl ?_
          refine w_iload_n (pc' := 62) dX10_way_61 rfl rfl ?_
          refine w_iload_n (pc' := 63) dX10_way_62 rfl rfl ?_
          refine w_iload (pc' := 65) dX10_way_63 rfl rfl ?_
          -- at 65: .invokevirtual 79
          refine w_callV4 (pc' := 68) (mc := 0) (ms := 0) dX10_way_65 rfl tX10_fits q988 rfl rfl qs30 q986 hO rfl (Nat.le_of_ble_eq_true rfl) (Nat.le_of_ble_eq_true rfl) ?_
          refine c_X10_fits hS hK hF hf eH eW hb hi hj ⟨k0, k1⟩ ⟨m0, m1⟩ (fun y => w_p1 ?_) (fun y => w_p1 ?_)
          · have hit := fi_hit (P := fun n => cdB σ f b l (8 * i + j) n) (n := 8 * σ.1 5) (i := 8 * k + m) (by omega) (by omega) ((hcd k m m0 m1).mpr ⟨by omega, q2, y⟩) hno
            rw [hit] at h
            refine w_if_eq (pc' := 71) (tgt := 79) dX10_way_68 rfl rfl (fun h_ => False.elim (by first | omega | (simp (decide := true) only [au_1, nu_2, au_lt, nu_lt, aw_e, nw_e, au_s, au_n, nu_s, nu_n, au_au, nu_nu, au_nu] at h_; omega))) (fun h_ => ?_)
            refine w_bipush (pc' := 73) dX10_way_71 rfl (by decide +kernel) (by decide) ?_
            refine w_iload_n (pc' := 74) dX10_way_73 rfl rfl ?_
            refine w_imul (pc' := 75) dX10_way_74 rfl ⟨by first | omega | (simp (decide := true) only [au_1, nu_2, au_lt, nu_lt, aw_e, nw_e, au_s, au_n, nu_s, nu_n, au_au, nu_nu, au_nu]; omega), by first | omega | (simp (decide := true) only [au_1, nu_2, au_lt, nu_lt, aw_e, nw_e, au_s, au_n, nu_s, nu_n, au_au, nu_nu, au_nu]; omega)⟩ ?_
            refine w_iload (pc' := 77) dX10_way_75 rfl rfl ?_
            refine w_iadd (pc' := 78) dX10_way_77 rfl ⟨by first | omega | (simp (decide := true) only [au_1, nu_2, au_lt, nu_lt, aw_e, nw_e, au_s, au_n, nu_s, nu_n, au_au, nu_nu, au_nu]; omega), by first | omega | (simp (decide := true) only [au_1, nu_2, au_lt, nu_lt, aw_e, nw_e, au_s, au_n, nu_s, nu_n, au_au, nu_nu, au_nu]; omega)⟩ ?_
            -- at 78: .ireturn
            refine w_ireturn dX10_way_78 rfl ?_
            exact h
          · refine w_if_eq (pc' := 71) (tgt := 79) dX10_way_68 rfl rfl (fun h_ => ?_) (fun h_ => False.elim (by first | omega | (simp (decide := true) only [au_1, nu_2, au_lt, nu_lt, aw_e, nw_e, au_s, au_n, nu_s, nu_n, au_au, nu_nu, au_nu] at h_; omega)))
            exact no (fun x => y ((hcd k m m0 m1).mp x).2.2)
end
