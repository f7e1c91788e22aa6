set_option maxRecDepth 10000
def ltr (a : Int) : Int := if plain a = 0 then -1 else plain a
/-- the reference's own cells are not touched -/
def tfr (G G' : GH) : Prop := ∀ q : Rl, q.1 < 2 → G' q = G q
theorem lst_c {G : GH} {a n : Int} {f f' : Int → Option Rl} (hf : ∀ i, 0 ≤ i → i < n → f i = f' i) (h : lst G a n f) : lst G a n f' := by
  obtain ⟨h0, mc, j, c, e, hO, h1, h2, h3, h4⟩ := h
  refine ⟨h0, mc, j, c, e, hO, h1, h2, h3, ?_⟩
  rcases h4 with ⟨e1, g, hg, hg'⟩ | h4
  · exact Or.inl ⟨e1, g, hg, fun i i0 i1 => (hg' i i0 i1).trans (hf i i0 i1)⟩
  · exact Or.inr h4
theorem Rkin_fr2 {σ : MS} {G G' : GH} (hf : ∀ q : Rl, ((q.1 = 12 ∨ q.1 = 13) ∧ 0 ≤ q.2.1 ∧ q.2.1 < σ.1 5 ∨ (q.1 = 30 ∨ q.1 = 31) ∧ q.2.1 = -1) → G' q = G q) (h : Rkin σ G) : Rkin σ G' := ⟨lst_of_fr (fun q q1 q2 => hf q (Or.inr ⟨q1, q2⟩)) h.1, fun k k0 k1 => tle_fr (hf _ (Or.inl ⟨Or.inl rfl, k0, k1⟩)) (hf _ (Or.inl ⟨Or.inr rfl, k0, k1⟩)) (h.2 k k0 k1)⟩
/-- the free cells, by the numbers -/
def frq (k m p r f N : Int) (q : Rl) : Prop := (30 ≤ q.1 ∧ q.1 < 60 ∧ N ≤ q.2.1) ∨ (12 ≤ q.1 ∧ q.1 < 18 ∧ q.2.1 < -N) ∨ ((q.1 = 12 ∨ q.1 = 13) ∧ k ≤ q.2.1) ∨ (14 ≤ q.1 ∧ q.1 < 18 ∧ m ≤ q.2.1) ∨ (q.1 = 18 ∧ p ≤ q.2.1) ∨ ((q.1 = 20 ∨ q.1 = 21) ∧ r ≤ q.2.1) ∨ ((33 ≤ q.1 ∧ q.1 < 38) ∧ q.2.1 < -(40 * r)) ∨ ((24 ≤ q.1 ∧ q.1 < 27) ∧ f ≤ q.2.1) ∨ (q.1 = 27 ∧ 8 * f ≤ q.2.1)
theorem fre_iff {σ : MS} {N : Int} {G : GH} : fre σ N G ↔ ∀ q, frq (σ.1 5) (σ.1 9) (σ.1 12) (σ.1 29) (σ.1 40) N q → G q = none := Iff.rfl
theorem fre_ch {σ τ : MS} {N N' k m p r f : Int} {G G' : GH} (ek : τ.1 5 = k) (em : τ.1 9 = m) (ep : τ.1 12 = p) (er : τ.1 29 = r) (ef : τ.1 40 = f) (hk : σ.1 5 ≤ k) (hm : σ.1 9 ≤ m) (hp : σ.1 12 ≤ p) (hr : σ.1 29 ≤ r) (hf : σ.1 40 ≤ f) (hN : N ≤ N') (hch : ∀ q, frq k m p r f N' q → G' q = G q) (h : fre σ N G) : fre τ N' G' := by
  rw [fre_iff] at h ⊢
  rw [ek, em, ep, er, ef]
  intro q hq
  refine (hch q hq).trans (h q ?_)
  unfold frq at hq ⊢
  omega
theorem Rx_mk {σ : MS} {pl cl : Int → Int} {N b : Int} {rg : Option Rl} {G : GH} (h1 : off G (σ.1 16) (σ.1 9) (σ.1 41) rg) (h2 : Rkin σ G) (h3 : Rrow σ G) (h4 : Rpat σ G pl) (h5 : Rchg σ G cl) (h6 : Rreg σ G rg b) (h7 : Rrul σ G) (h8 : Rflo σ G) (h9 : Rscr G) (h10 : fre σ N G) (h11 : ids σ pl cl N b) : Rx σ (pl, cl, N, b, rg) G := ⟨h1, h2, h3, h4, h5, h6, h7, h8, h9, h10, h11⟩
theorem Rx_un {σ : MS} {pl cl : Int → Int} {N b : Int} {rg : Option Rl} {G : GH} (h : Rx σ (pl, cl, N, b, rg) G) : off G (σ.1 16) (σ.1 9) (σ.1 41) rg ∧ Rkin σ G ∧ Rrow σ G ∧ Rpat σ G pl ∧ Rchg σ G cl ∧ Rreg σ G rg b ∧ Rrul σ G ∧ Rflo σ G ∧ Rscr G ∧ fre σ N G ∧ ids σ pl cl N b := h
section
variable {d : Nat} {K : Option XV → GH → Prop} {G0 G : GH} {bc bs : Nat} {σ : MS} {w : RW}
theorem c_X0_letters {a : Int} (hr : rgL a) (h : K (some (xL (ltr a))) G) : tvW mX0_letters d K 0 [some (xL a), none, none, none, none, none, none] [] G bc bs := by
  unfold ltr at h
  have loop : ∀ (n : Nat) (v k : Int), n ≤ 8 → k = 8 * n - 8 → 0 ≤ v → (2 * v + 1) * (256 ^ n : Nat) ≤ 18446744073709551616 → pl a n v = plain a → ∀ L5 : Option XV, tvW mX0_letters d K 6 [some (xL a), none, some (xL v), none, some (xI k), L5, none] [] G bc bs := by
    intro n
    induction n with
    | zero =>
      intro v k hn hk h0 h1 hp L5
      have hp : v = plain a := hp
      rw [hp]
      refine w_iload (pc' := 8) dX0_letters_6 rfl rfl ?_
      -- at 8: .ifCond .lt 59
      refine w_if_lt (pc' := 11) (tgt := 67) dX0_letters_8 rfl rfl (fun h_ => ?_) (fun h_ => False.elim (by first | omega | (simp (decide := true) only [au_1, nu_2, au_lt, nu_lt, aw_e, nw_e, au_s, au_n, nu_s, nu_n, au_au, nu_nu, au_nu] at h_; omega)))
      refine w_lload_n (pc' := 68) dX0_letters_67 rfl rfl ?_
      refine w_lconst (z := 0) (pc' := 69) dX0_letters_68 rfl rfl (by decide) ?_
      refine w_lcmp (pc' := 70) dX0_letters_69 rfl ?_
      -- at 70: .ifCond .ne 9
      refine w_if_ne (pc' := 73) (tgt := 79) dX0_letters_70 rfl rfl (fun g => ?_) (fun g => ?_)
      · rw [if_neg (fun q => g (lCmp_eq.mpr q))] at h
        refine w_lload_n (pc' := 80) dX0_letters_79 rfl rfl ?_
        -- at 80: .lreturn
        refine w_lreturn dX0_letters_80 rfl ?_
        exact h
      · rw [if_pos (lCmp_eq.mp g)] at h
        refine w_ldc2 (z := -1) (pc' := 76) dX0_letters_73 rfl q205 (by decide +kernel) (by decide) ?_
        refine w_goto (tgt := 80) dX0_letters_76 rfl ?_
        -- at 80: .lreturn
        refine w_lreturn dX0_letters_80 rfl ?_
        exact h
    | succ n ih =>
      intro v k hn hk h0 h1 hp L5
      have hb := byt_r a n
      have hv := pl_b h0 h1
      unfold pl at hp
      refine w_iload (pc' := 8) dX0_letters_6 rfl rfl ?_
      -- at 8: .ifCond .lt 59
      refine w_if_lt (pc' := 11) (tgt := 67) dX0_letters_8 rfl rfl (fun h_ => False.elim (by first | omega | (simp (decide := true) only [au_1, nu_2, au_lt, nu_lt, aw_e, nw_e, au_s, au_n, nu_s, nu_n, au_au, nu_nu, au_nu] at h_; omega))) (fun h_ => ?_)
      refine w_lload_n (pc' := 12) dX0_letters_11 rfl rfl ?_
      refine w_iload (pc' := 14) dX0_letters_12 rfl rfl ?_
      refine w_lushr (pc' := 15) dX0_letters_14 rfl ?_
      refine w_ldc2 (z := 255) (pc' := 18) dX0_letters_15 rfl q202 (by decide +kernel) (by decide) ?_
      refine w_land (pc' := 19) dX0_letters_18 rfl ?_
      -- at 19: .lstore 5
      rw [show k = 8 * (n : Int) by omega, byt_c hr (by omega)]
      refine w_lst5 (pc' := 21) dX0_letters_19 rfl rfl ?_
      refine w_lload (pc' := 23) dX0_letters_21 rfl rfl ?_
      refine w_lconst (z := 0) (pc' := 24) dX0_letters_23 rfl rfl (by decide) ?_
      refine w_lcmp (pc' := 25) dX0_letters_24 rfl ?_
      -- at 25: .ifCond .ne 6
      refine w_if_ne (pc' := 28) (tgt := 31) dX0_letters_25 rfl rfl (fun g1 => ?_) (fun g1 => ?_)
      · have g1 : byt a n ≠ 0 := fun q => g1 (lCmp_eq.mpr q)
        rw [if_neg g1] at hp
        refine w_lload (pc' := 33) dX0_letters_31 rfl rfl ?_
        refine w_ldc2 (z := 97) (pc' := 36) dX0_letters_33 rfl q203 (by decide +kernel) (by decide) ?_
        refine w_lcmp (pc' := 37) dX0_letters_36 rfl ?_
        -- at 37: .ifCond .lt 12
        refine w_if_lt (pc' := 40) (tgt := 49) dX0_letters_37 rfl rfl (fun g2 => ?_) (fun g2 => ?_)
        · have g2 := lCmp_lt.mp g2
          rw [if_pos (Or.inl g2)] at hp
          rw [if_pos hp.symm] at h
          refine w_ldc2 (z := -1) (pc' := 52) dX0_letters_49 rfl q205 (by decide +kernel) (by decide) ?_
          -- at 52: .lreturn
          refine w_lreturn dX0_letters_52 rfl ?_
          exact h
        · have g2 := lCmp_ge.mp g2
          refine w_lload (pc' := 42) dX0_letters_40 rfl rfl ?_
          refine w_ldc2 (z := 122) (pc' := 45) dX0_letters_42 rfl q204 (by decide +kernel) (by decide) ?_
          refine w_lcmp (pc' := 46) dX0_letters_45 rfl ?_
          -- at 46: .ifCond .le 7
          refine w_if_le (pc' := 49) (tgt := 53) dX0_letters_46 rfl rfl (fun g3 => ?_) (fun g3 => ?_)
          · have g3 := lCmp_le.mp g3
            rw [if_neg (by omega)] at hp
            refine w_lload_n (pc' := 54) dX0_letters_53 rfl rfl ?_
            refine w_bipush (pc' := 56) dX0_letters_54 rfl (by decide +kernel) (by decide) ?_
            refine w_lshl (pc' := 57) dX0_letters_56 rfl ?_
            refine w_lload (pc' := 59) dX0_letters_57 rfl rfl ?_
            refine w_lor (pc' := 60) dX0_letters_59 rfl ?_
            refine w_lst2 (pc' := 61) dX0_letters_60 rfl rfl ?_
            refine w_inc4 (pc' := 64) dX0_letters_61 rfl rfl ⟨by first | omega | (simp (decide := true) only [au_1, nu_2, au_lt, nu_lt, aw_e, nw_e, au_s, au_n, nu_s, nu_n, au_au, nu_nu, au_nu]; omega), by first | omega | (simp (decide := true) only [au_1, nu_2, au_lt, nu_lt, aw_e, nw_e, au_s, au_n, nu_s, nu_n, au_au, nu_nu, au_nu]; omega)⟩ ?_
            refine w_goto (tgt := 6) dX0_letters_64 rfl ?_
            -- at 6: .iload 4
            rw [lShl_8 h0 hv, lOr_add h0 hv hb.1 hb.2]
            exact ih _ _ (by omega) (by omega) (by omega) (pl_n h0 ⟨hb.1, g3⟩ h1).1 hp _
          · have g3 := lCmp_gt.mp (show 0 < lCmp _ _ by omega)
            rw [if_pos (Or.inr g3)] at hp
            rw [if_pos hp.symm] at h
            refine w_ldc2 (z := -1) (pc' := 52) dX0_letters_49 rfl q205 (by decide +kernel) (by decide) ?_
            -- at 52: .lreturn
            refine w_lreturn dX0_letters_52 rfl ?_
            exact h
      · rw [if_pos (lCmp_eq.mp g1)] at hp
        refine w_goto (tgt := 61) dX0_letters_28 rfl ?_
        refine w_inc4 (pc' := 64) dX0_letters_61 rfl rfl ⟨by first | omega | (simp (decide := true) only [au_1, nu_2, au_lt, nu_lt, aw_e, nw_e, au_s, au_n, nu_s, nu_n, au_au, nu_nu, au_nu]; omega), by first | omega | (simp (decide := true) only [au_1, nu_2, au_lt, nu_lt, aw_e, nw_e, au_s, au_n, nu_s, nu_n, au_au, nu_nu, au_nu]; omega)⟩ ?_
        refine w_goto (tgt := 6) dX0_letters_64 rfl ?_
        -- at 6: .iload 4
        exact ih v _ (by omega) (by omega) h0 (pl_n (c := 0) h0 ⟨by omega, by omega⟩ h1).2 hp _
  refine w_lconst (z := 0) (pc' := 1) dX0_letters_0 rfl rfl (by decide) ?_
  refine w_lst2 (pc' := 2) dX0_letters_1 rfl rfl ?_
  refine w_bipush (pc' := 4) dX0_letters_2 rfl (by decide +kernel) (by decide) ?_
  refine w_ist4 (pc' := 6) dX0_letters_4 rfl rfl ?_
  -- at 6: .iload 4
  exact loop 8 0 56 (by omega) (by omega) (by omega) (by decide) rfl _
theorem c_X0_named {a : Int} (hw : Rx σ w G) (hK : kok σ) (hr : rgL a) (h : K (some (xI (nmd σ a))) G) : tvW mX0_named (d + 3) K 0 [some (xR oR), some (xL a), none, none, none, none] [] G bc bs := by
  have hof := hw.1
  unfold off at hof
  obtain ⟨lf, hl⟩ := lst_o hw.2.1.1
  have hk1 := hK.1
  refine w_lload_n (pc' := 1) dX0_named_0 rfl rfl ?_
  -- at 1: .invokestatic 76
  refine w_callS1 (pc' := 4) (mc := 0) (ms := 0) dX0_named_1 rfl tX0_letters q200 q199 rfl (Nat.le_of_ble_eq_true rfl) (Nat.le_of_ble_eq_true rfl) ?_
  refine c_X0_letters hr ?_
  refine w_p1 ?_
  refine w_lst3 (pc' := 5) dX0_named_4 rfl rfl ?_
  refine w_iconst (pc' := 6) dX0_named_5 rfl (by decide) ?_
  refine w_ist5 (pc' := 8) dX0_named_6 rfl rfl ?_
  -- at 8: .iload 5
  refine up (T := fun i => (∀ j, 0 ≤ j → j < i → ¬ (plain a ≠ 0 ∧ σ.2 4 j = plain a)) → tvW mX0_named (d + 3) K 8 [some (xR oR), some (xL a), none, some (xL (ltr a)), none, some (xI i)] [] G bc bs) (σ.1 5) hk1.1 (fun hn => ?_) (fun i h0 h1 ih hn => ?_) (fun j h0 h1 => by omega)
  · refine w_iload (pc' := 10) dX0_named_8 rfl rfl ?_
    refine w_aload_n (pc' := 11) dX0_named_10 rfl rfl ?_
    refine w_get 0 (pc' := 14) dX0_named_11 rfl fX0_10_0 hof rfl ?_
    -- at 14: .invokevirtual 54
    refine w_callV0 (pc' := 17) (mc := 0) (ms := 0) dX0_named_14 rfl tJ2_size q207 rfl rfl q208 q206 hl rfl (Nat.le_of_ble_eq_true rfl) (Nat.le_of_ble_eq_true rfl) ?_
    refine c_J2_size hw.2.1.1 ?_
    refine w_p1 ?_
    refine w_icmp_ge (pc' := 20) (tgt := 49) dX0_named_17 rfl rfl (fun h_ => ?_) (fun h_ => False.elim (by first | omega | (simp (decide := true) only [au_1, nu_2, au_lt, nu_lt, aw_e, nw_e, au_s, au_n, nu_s, nu_n, au_au, nu_nu, au_nu] at h_; omega)))
    refine w_iconst (pc' := 50) dX0_named_49 rfl (by decide) ?_
    -- at 50: .ireturn
    refine w_ireturn dX0_named_50 rfl ?_
    rw [show nmd σ a = -1 from fi_no hn] at h
    exact h
  · have tl := hw.2.1.2 i h0 h1
    have nm := (hK.2 i h0 h1).2.2.2
    refine w_iload (pc' := 10) dX0_named_8 rfl rfl ?_
    refine w_aload_n (pc' := 11) dX0_named_10 rfl rfl ?_
    refine w_get 0 (pc' := 14) dX0_named_11 rfl fX0_10_0 hof rfl ?_
    -- at 14: .invokevirtual 54
    refine w_callV0 (pc' := 17) (mc := 0) (ms := 0) dX0_named_14 rfl tJ2_size q207 rfl rfl q208 q206 hl rfl (Nat.le_of_ble_eq_true rfl) (Nat.le_of_ble_eq_true rfl) ?_
    refine c_J2_size hw.2.1.1 ?_
    refine w_p1 ?_
    refine w_icmp_ge (pc' := 20) (tgt := 49) dX0_named_17 rfl rfl (fun h_ => False.elim (by first | omega | (simp (decide := true) only [au_1, nu_2, au_lt, nu_lt, aw_e, nw_e, au_s, au_n, nu_s, nu_n, au_au, nu_nu, au_nu] at h_; omega))) (fun h_ => ?_)
    refine w_aload_n (pc' := 21) dX0_named_20 rfl rfl ?_
    refine w_get 0 (pc' := 24) dX0_named_21 rfl fX0_10_0 hof rfl ?_
    refine w_iload (pc' := 26) dX0_named_24 rfl rfl ?_
    -- at 26: .invokevirtual 58
    refine w_callV1 (pc' := 29) (mc := 0) (ms := 0) dX0_named_26 rfl tJ2_get q211 rfl rfl q212 q210 hl rfl (Nat.le_of_ble_eq_true rfl) (Nat.le_of_ble_eq_true rfl) ?_
    refine c_J2_get hw.2.1.1 ⟨h0, h1⟩ ?_
    refine w_p1 ?_
    refine w_cast (pc' := 32) dX0_named_29 rfl tl.1 rfl q224 ?_
    refine w_get 4 (pc' := 35) dX0_named_32 rfl fX0_82_2 tl.1 rfl ?_
    refine w_lload_n (pc' := 36) dX0_named_35 rfl rfl ?_
    refine w_lcmp (pc' := 37) dX0_named_36 rfl ?_
    -- at 37: .ifCond .ne 6
    have key : σ.2 4 i = ltr a ↔ plain a ≠ 0 ∧ σ.2 4 i = plain a := by
      unfold ltr
      split <;> omega
    refine w_if_ne (pc' := 40) (tgt := 43) dX0_named_37 rfl rfl (fun g2 => ?_) (fun g2 => ?_)
    · have g2 : ¬ σ.2 4 i = ltr a := fun q => g2 (lCmp_eq.mpr q)
      refine w_inc5 (pc' := 46) dX0_named_43 rfl rfl ⟨by first | omega | (simp (decide := true) only [au_1, nu_2, au_lt, nu_lt, aw_e, nw_e, au_s, au_n, nu_s, nu_n, au_au, nu_nu, au_nu]; omega), by first | omega | (simp (decide := true) only [au_1, nu_2, au_lt, nu_lt, aw_e, nw_e, au_s, au_n, nu_s, nu_n, au_au, nu_nu, au_nu]; omega)⟩ ?_
      refine w_goto (tgt := 8) dX0_named_46 rfl ?_
      -- at 8: .iload 5
      refine ih (fun j j0 j1 => ?_)
      by_cases q : j = i
      · rw [q]; exact fun z => g2 (key.mpr z)
      · exact hn j j0 (by omega)
    · have g2 := lCmp_eq.mp g2
      refine w_iload (pc' := 42) dX0_named_40 rfl rfl ?_
      -- at 42: .ireturn
      refine w_ireturn dX0_named_42 rfl ?_
      rw [show nmd σ a = i from fi_hit h0 h1 (key.mp g2) hn] at h
      exact h
theorem col_ok {e t : Int} (he : 0 ≤ e ∧ e ≤ 65535) (ht : t = 1 ∨ t = 2 ∨ t = 4) : ((t < 4 → e / 1 % 16 = e / 256 % 16 ∧ e / 16 % 16 = e / 4096 % 16) ∧ (t = 1 → e / 1 % 16 = e / 16 % 16)) ↔ ((t = 1 → e = e % 16 * 4369) ∧ (t = 2 → e % 256 = e / 256)) := by
  have e0 : e / 1 = e := Int.ediv_one e
  have e2 : e / 256 = e / 16 / 16 := by omega
  have e3 : e / 4096 = e / 16 / 16 / 16 := by omega
  have e5 : e % 256 = e / 16 % 16 * 16 + e % 16 := by omega
  have e6 : e = e / 16 * 16 + e % 16 := by omega
  have e7 : e / 16 = e / 16 / 16 * 16 + e / 16 % 16 := by omega
  have e8 : e / 16 / 16 = e / 16 / 16 / 16 * 16 + e / 16 / 16 % 16 := by omega
  have r3 : e / 16 / 16 / 16 % 16 = e / 16 / 16 / 16 := by omega
  have b0 : 0 ≤ e % 16 ∧ e % 16 < 16 := by omega
  have b1 : 0 ≤ e / 16 % 16 ∧ e / 16 % 16 < 16 := by omega
  have b2 : 0 ≤ e / 16 / 16 % 16 ∧ e / 16 / 16 % 16 < 16 := by omega
  rw [e0, e3, e2, e5, r3]
  generalize e % 16 = d0 at *
  generalize e / 16 % 16 = d1 at *
  generalize e / 16 / 16 % 16 = d2 at *
  generalize e / 16 / 16 / 16 = d3 at *
  have b3 : 0 ≤ d3 ∧ d3 < 16 := by omega
  generalize e / 16 / 16 = q2 at *
  generalize e / 16 = q1 at *
  rcases ht with rfl | rfl | rfl
  · constructor
    · rintro ⟨a, b⟩
      have := a (by omega)
      have := b rfl
      exact ⟨fun _ => by omega, fun z => by omega⟩
    · rintro ⟨a, b⟩
      have a := a rfl
      have k1 : 16 * (273 * d0 - q1) = 0 := by omega
      have k2 : q1 = 273 * d0 := by omega
      have k3 : 16 * (17 * d0 - q2) = d1 - d0 := by omega
      have k4 : 17 * d0 - q2 = 0 := by omega
      have k5 : 16 * (d0 - d3) = d2 - d0 := by omega
      have k6 : d0 - d3 = 0 := by omega
      exact ⟨fun _ => ⟨by omega, by omega⟩, fun _ => by omega⟩
  · constructor
    · rintro ⟨a, b⟩
      have := a (by omega)
      exact ⟨fun z => by omega, fun _ => by omega⟩
    · rintro ⟨a, b⟩
      have := b rfl
      exact ⟨fun _ => by omega, fun z => by omega⟩
  · exact ⟨fun _ => ⟨fun z => by omega, fun z => by omega⟩, fun _ => ⟨fun z => by omega, fun z => by omega⟩⟩
theorem lel_k {σ : MS} {G : GH} (h : Rkin σ G) : lel G (σ.1 5) (fun k => some (kO k)) 2 := fun i i0 i1 => ⟨_, _, rfl, Or.inl (by decide : (12 : Nat) < 30), (h.2 i i0 i1).1⟩
/-- a tile that is not taken -/
theorem Rx_gar {σ : MS} {pl cl : Int → Int} {N b : Int} {rg : Option Rl} {G G2 : GH} (hw : Rx σ (pl, cl, N, b, rg) G) (hk0 : 0 ≤ σ.1 5) (hm0 : 0 ≤ σ.1 9) (ch : ∀ q : Rl, ¬ ((12 ≤ q.1 ∧ q.1 < 18) ∧ q.2.1 = -1 - N) → G2 q = G q) : Rx σ (pl, cl, N + 1, b, rg) G2 := by
  obtain ⟨hx1, hx2, hx3, hx4, hx5, hx6, hx7, hx8, hx9, hx10, hx11⟩ := Rx_un hw
  have hN := hx11.1
  have hi : ids σ pl cl (N + 1) b := by
    obtain ⟨i1, i2, i3, i4, i5⟩ := hx11
    refine ⟨by omega, by omega, fun p p0 p1 => ?_, fun t t0 t1 => ?_, i5⟩
    · have := i3 p p0 p1
      omega
    · have := i4 t t0 t1
      omega
  have hfe : fre σ (N + 1) G2 := fre_ch (σ := σ) (k := σ.1 5) (m := σ.1 9) (p := σ.1 12) (r := σ.1 29) (f := σ.1 40) rfl rfl rfl rfl rfl (Int.le_refl _) (Int.le_refl _) (Int.le_refl _) (Int.le_refl _) (Int.le_refl _) (by omega) (fun q hq => ch q (by unfold frq at hq; omega)) hx10
  exact Rx_mk ((ch _ (by simp only []; omega)).trans hx1) (Rkin_fr2 (fun q hq => ch q (by omega)) hx2) (Rrow_fr (fun q hq _ _ => ch q (by omega)) hx3) (Rpat_fr (fun p _ _ => ch _ (by simp only []; omega)) (fun q hq _ => ch q (by omega)) (fun _ _ _ q hq _ => ch q (by omega)) hx4) (Rchg_fr (ch _ (by simp only []; omega)) (fun _ _ _ => ch _ (by simp only []; omega)) (fun _ _ _ q hq _ => ch q (by omega)) hx5) (Rreg_fr (fun q hq _ => ch q (by omega)) hx6) (Rrul_fr (fun q hq => ch q (by omega)) hx7) (Rflo_fr (fun q hq => ch q (by omega)) hx8) (Rscr_fr (fun q hq => ch q (by omega)) hx9) hfe hi
/-- a tile that is taken -/
theorem Rx_kind {σ : MS} {pl cl : Int → Int} {N b e t m c a : Int} {rg : Option Rl} {G G3 : GH} (hw : Rx σ (pl, cl, N, b, rg) G) (hk : 0 ≤ σ.1 5) (ch3 : ∀ q : Rl, ¬ ((q.1 = 12 ∨ q.1 = 13) ∧ q.2.1 = σ.1 5 ∨ (q.1 = 30 ∨ q.1 = 31) ∧ q.2.1 = -1) → G3 q = G q) (l3 : lst G3 (-1) (σ.1 5 + 1) (fun k => some (kO k))) (tl : tle G3 (kO (σ.1 5)) (kC (σ.1 5)) e t c m (plain a)) : Rx (sKind σ e t m c (plain a)) (pl, cl, N, b, rg) G3 := by
  obtain ⟨hx1, hx2, hx3, hx4, hx5, hx6, hx7, hx8, hx9, hx10, hx11⟩ := Rx_un hw
  have hN := hx11.1
  have hfe : fre (sKind σ e t m c (plain a)) N G3 := fre_ch (σ := σ) (k := σ.1 5 + 1) (m := σ.1 9) (p := σ.1 12) (r := σ.1 29) (f := σ.1 40) rfl rfl rfl rfl rfl (by omega) (Int.le_refl _) (Int.le_refl _) (Int.le_refl _) (Int.le_refl _) (by omega) (fun q hq => ch3 q (by unfold frq at hq; omega)) hx10
  have hkn : Rkin (sKind σ e t m c (plain a)) G3 := by
    refine ⟨l3, fun k k0 k1 => ?_⟩
    have k1 : k < σ.1 5 + 1 := k1
    show tle G3 (kO k) (kC k) (iset (σ.2 0) (σ.1 5) e k) (iset (σ.2 1) (σ.1 5) t k) (iset (σ.2 2) (σ.1 5) c k) (iset (σ.2 3) (σ.1 5) m k) (iset (σ.2 4) (σ.1 5) (plain a) k)
    unfold iset
    by_cases ek : k = σ.1 5
    · rw [if_pos ek, if_pos ek, if_pos ek, if_pos ek, if_pos ek, ek]
      exact tl
    · rw [if_neg ek, if_neg ek, if_neg ek, if_neg ek, if_neg ek]
      exact tle_fr (ch3 _ (by simp only []; omega)) (ch3 _ (by simp only []; omega)) (hx2.2 k k0 (by omega))
  have p3 : Rrow σ G3 := Rrow_fr (fun q hq _ _ => ch3 q (by omega)) hx3
  have p4 : Rpat σ G3 pl := Rpat_fr (fun p _ _ => ch3 _ (by simp only []; omega)) (fun q hq _ => ch3 q (by omega)) (fun p p0 p1 q hq e => ch3 q (by have z := hx11.2.2.1 p p0 p1; omega)) hx4
  have p5 : Rchg σ G3 cl := Rchg_fr (ch3 _ (by simp only []; omega)) (fun _ _ _ => ch3 _ (by simp only []; omega)) (fun t t0 t1 q hq e => ch3 q (by have z := hx11.2.2.2.1 t t0 t1; omega)) hx5
  have p6 : Rreg σ G3 rg b := Rreg_fr (fun q hq _ => ch3 q (by omega)) hx6
  have p7 : Rrul σ G3 := Rrul_fr (fun q hq => ch3 q (by omega)) hx7
  have p8 : Rflo σ G3 := Rflo_fr (fun q hq => ch3 q (by omega)) hx8
  exact Rx_mk ((ch3 _ (by simp only []; omega)).trans hx1) hkn p3 p4 p5 p6 p7 p8 (Rscr_fr (fun q hq => ch3 q (by omega)) hx9) hfe hx11
theorem c_X0_kind {e t m c a : Int} (hw : Rx σ w G) (hK : kok σ) (hR : rok σ) (hr : rgL a) (hm : m = 0 ∨ m = 1) (h1 : kcan σ e t c (plain a) ∧ nmd σ a < 0 → ∀ G', tfr G G' → Rx (sKind σ e t m c (plain a)) w G' → K (some (xI (σ.1 5))) G') (h0 : ¬ (kcan σ e t c (plain a) ∧ nmd σ a < 0) → ∀ G', tfr G G' → Rel σ G' → K (some (xI (-1))) G') : tvW mX0_kind (d + 7) K 0 [some (xR oR), some (xI e), some (xI t), some (xI m), some (xI c), some (xL a), none, none, none, none, none] [] G 3 109 := by
  obtain ⟨pl, cl, N, b, rg⟩ := w
  have hof := hw.1
  unfold off at hof
  obtain ⟨lf, hl⟩ := lst_o hw.2.1.1
  have hk1 := hK.1
  have bad : ¬ (kcan σ e t c (plain a) ∧ nmd σ a < 0) → tvW mX0_kind (d + 7) K 73 [some (xR oR), some (xI e), some (xI t), some (xI m), some (xI c), some (xL a), none, some (xL (ltr a)), none, none, none] [] G 3 109 := by
    intro q
    refine w_iconst (pc' := 74) dX0_kind_73 rfl (by decide) ?_
    -- at 74: .ireturn
    refine w_ireturn dX0_kind_74 rfl ?_
    exact h0 q G (fun _ _ => rfl) ⟨_, hw⟩
  unfold kcan at bad
  have main : σ.1 5 < 40 → (0 ≤ e ∧ e ≤ 65535) → (t = 1 ∨ t = 2 ∨ t = 4) → (0 ≤ c ∧ c ≤ 1000) → plain a ≠ 0 → nmd σ a < 0 → tvW mX0_kind (d + 7) K 75 [some (xR oR), some (xI e), some (xI t), some (xI m), some (xI c), some (xL a), none, some (xL (ltr a)), none, none, none] [] G 3 109 := by
    intro c1 c2 c3 c4 c5 c6
    have elt : ltr a = plain a := if_neg c5
    rw [elt]
    have hacc : (kcan σ e t c (plain a) ∧ nmd σ a < 0) ↔ ((t < 4 → e / 1 % 16 = e / 256 % 16 ∧ e / 16 % 16 = e / 4096 % 16) ∧ (t = 1 → e / 1 % 16 = e / 16 % 16)) := by
      rw [col_ok c2 c3]
      unfold kcan
      constructor
      · intro z; exact ⟨z.1.2.2.2.2.2.1, z.1.2.2.2.2.2.2⟩
      · intro z; exact ⟨⟨c1, c2, c3, c4, c5, z.1, z.2⟩, c6⟩
    have hz : ∃ z : Int, ((kcan σ e t c (plain a) ∧ nmd σ a < 0) ∧ z = σ.1 5 ∨ ¬ (kcan σ e t c (plain a) ∧ nmd σ a < 0) ∧ z = -1 - N) := by
      by_cases q : kcan σ e t c (plain a) ∧ nmd σ a < 0
      · exact ⟨_, Or.inl ⟨q, rfl⟩⟩
      · exact ⟨_, Or.inr ⟨q, rfl⟩⟩
    obtain ⟨z, hz⟩ := hz
    obtain ⟨hx1, hx2, hx3, hx4, hx5, hx6, hx7, hx8, hx9, hx10, hx11⟩ := Rx_un hw
    have hN := hx11.1
    have hfr : ∀ t : Nat, t = 12 ∨ t = 13 → G (t, z, 0) = none := by
      intro t ht
      refine fre_iff.mp hx10 _ ?_
      unfold frq
      simp only []
      omega
    have h12 := hfr 12 (Or.inl rfl)
    have h13 := hfr 13 (Or.inr rfl)
    refine w_new (N := 5) (kO z) (pc' := 78) dX0_kind_75 rfl nX0_80 (by assumption) (by first | assumption | simp) ?_
    -- at 78: .dup
    refine w_upd (fun G1 a1 f1 => ?_)
    have h13 := (f1 _ (rl_ne (by omega))).trans h13
    refine w_dup (pc' := 79) dX0_kind_78 rfl rfl ?_
    refine w_iload_n (pc' := 80) dX0_kind_79 rfl rfl ?_
    refine w_iload_n (pc' := 81) dX0_kind_80 rfl rfl ?_
    refine w_iload_n (pc' := 82) dX0_kind_81 rfl rfl ?_
    refine w_iload (pc' := 84) dX0_kind_82 rfl rfl ?_
    refine w_lload (pc' := 86) dX0_kind_84 rfl rfl ?_
    -- at 86: .invokespecial 91
    refine w_callI5 (pc' := 89) (mc := 1) (ms := 4) dX0_kind_86 rfl tX2_init rfl rfl q233 (Or.inl q232) rfl (Nat.le_of_ble_eq_true rfl) (Nat.le_of_ble_eq_true rfl) ?_
    refine c_X2_init (c := kC z) a1 h13 (by simp) c2 hm (fun G2 f2 tl => w_p0 ?_)
    have ch : ∀ q, q ≠ kO z → q ≠ kC z → G2 q = G q := fun q q1 q2 => (f2 q q1 q2).trans (f1 q q1)
    have tl0 := tl
    obtain ⟨tO, g, tC, tg⟩ := tl
    have t0 : g 0 = e / 1 % 16 := (tg 0 (by omega) (by omega)).trans (by rfl)
    have t1 : g 1 = e / 16 % 16 := (tg 1 (by omega) (by omega)).trans (by rfl)
    have t2 : g 2 = e / 256 % 16 := (tg 2 (by omega) (by omega)).trans (by rfl)
    have t3 : g 3 = e / 4096 % 16 := (tg 3 (by omega) (by omega)).trans (by rfl)
    have no : ¬ (kcan σ e t c (plain a) ∧ nmd σ a < 0) → tvW mX0_kind (d + 7) K 141 [some (xR oR), some (xI e), some (xI t), some (xI m), some (xI c), some (xL a), none, some (xL (plain a)), none, some (xR (kO z)), some (xR (kC z))] [] G2 1 100 := by
      intro q
      have ez : z = -1 - N := by
        rcases hz with ⟨z1, -⟩ | ⟨-, z2⟩
        · exact absurd z1 q
        · exact z2
      clear hacc hz tg t0 t1 t2 t3
      have ch : ∀ q : Rl, ¬ ((q.1 = 12 ∨ q.1 = 13) ∧ q.2.1 = -1 - N) → G2 q = G q := fun q hq => ch q (fun y => hq (by rw [y, ez]; exact ⟨Or.inl rfl, rfl⟩)) (fun y => hq (by rw [y, ez]; exact ⟨Or.inr rfl, rfl⟩))
      refine w_iconst (pc' := 142) dX0_kind_141 rfl (by decide) ?_
      -- at 142: .ireturn
      refine w_ireturn dX0_kind_142 rfl ?_
      exact h0 q G2 (fun q hq => ch q (by omega)) ⟨_, Rx_gar hw hk1.1 hR.1.1 (fun q hq => ch q (by omega))⟩
    have yes : (kcan σ e t c (plain a) ∧ nmd σ a < 0) → tvW mX0_kind (d + 7) K 143 [some (xR oR), some (xI e), some (xI t), some (xI m), some (xI c), some (xL a), none, some (xL (plain a)), none, some (xR (kO z)), some (xR (kC z))] [] G2 1 100 := by
      intro q
      have ez : z = σ.1 5 := by
        rcases hz with ⟨-, z1⟩ | ⟨z2, -⟩
        · exact z1
        · exact absurd q z2
      clear hacc hz tg t0 t1 t2 t3
      subst ez
      have ch : ∀ q : Rl, ¬ ((q.1 = 12 ∨ q.1 = 13) ∧ q.2.1 = σ.1 5) → G2 q = G q := fun q hq => ch q (fun y => hq (by rw [y]; exact ⟨Or.inl rfl, rfl⟩)) (fun y => hq (by rw [y]; exact ⟨Or.inr rfl, rfl⟩))
      have hof := (ch oR (by simp only []; omega)).trans hof
      have hk2 : Rkin σ G2 := Rkin_fr2 (fun q hq => ch q (by omega)) hx2
      obtain ⟨lf, hl⟩ := lst_o hk2.1
      refine w_aload_n (pc' := 144) dX0_kind_143 rfl rfl ?_
      refine w_get 0 (pc' := 147) dX0_kind_144 rfl fX0_10_0 hof rfl ?_
      refine w_aload (pc' := 149) dX0_kind_147 rfl rfl ?_
      -- at 149: .invokevirtual 98
      refine w_callV1 (pc' := 152) (mc := 1) (ms := 100) dX0_kind_149 rfl tJ2_add q257 rfl rfl q258 q256 hl rfl (Nat.le_of_ble_eq_true rfl) (Nat.le_of_ble_eq_true rfl) ?_
      refine c_J2_add hk2.1 (by omega) ⟨_, rfl, Or.inr ⟨_, rfl, q1584⟩⟩ (lel_k hk2) tO (Or.inl (by decide : (12 : Nat) < 30)) (fun G3 f3 l3 => w_p1 ?_)
      have ch3 : ∀ q : Rl, ¬ ((q.1 = 12 ∨ q.1 = 13) ∧ q.2.1 = σ.1 5 ∨ (q.1 = 30 ∨ q.1 = 31) ∧ q.2.1 = -1) → G3 q = G q := fun q hq => (f3 q (by omega)).trans (ch q (by omega))
      have hof := (f3 oR (by simp only []; omega)).trans hof
      have l3 : lst G3 (-1) (σ.1 5 + 1) (fun k => some (kO k)) := lst_c (fun i _ _ => by unfold rset; split <;> simp [*]) l3
      obtain ⟨lf3, hl3⟩ := lst_o l3
      refine w_pop (pc' := 153) dX0_kind_152 rfl rfl ?_
      refine w_aload_n (pc' := 154) dX0_kind_153 rfl rfl ?_
      refine w_get 0 (pc' := 157) dX0_kind_154 rfl fX0_10_0 hof rfl ?_
      -- at 157: .invokevirtual 54
      refine w_callV0 (pc' := 160) (mc := 0) (ms := 0) dX0_kind_157 rfl tJ2_size q207 rfl rfl q208 q206 hl3 rfl (Nat.le_of_ble_eq_true rfl) (Nat.le_of_ble_eq_true rfl) ?_
      refine c_J2_size l3 ?_
      refine w_p1 ?_
      refine w_iconst (pc' := 161) dX0_kind_160 rfl (by decide) ?_
      refine w_isub (pc' := 162) dX0_kind_161 rfl ⟨by first | omega | (simp (decide := true) only [au_1, nu_2, au_lt, nu_lt, aw_e, nw_e, au_s, au_n, nu_s, nu_n, au_au, nu_nu, au_nu]; omega), by first | omega | (simp (decide := true) only [au_1, nu_2, au_lt, nu_lt, aw_e, nw_e, au_s, au_n, nu_s, nu_n, au_au, nu_nu, au_nu]; omega)⟩ ?_
      -- at 162: .ireturn
      refine w_ireturn dX0_kind_162 rfl ?_
      rw [show σ.1 5 + 1 - 1 = σ.1 5 by omega]
      refine h1 q G3 (fun q hq => ch3 q (by omega)) ?_
      exact Rx_kind hw hk1.1 ch3 l3 (tle_fr (f3 _ (by simp only []; omega)) (f3 _ (by simp only []; omega)) tl0)
    have last : (t < 4 → e / 1 % 16 = e / 256 % 16 ∧ e / 16 % 16 = e / 4096 % 16) → tvW mX0_kind (d + 7) K 125 [some (xR oR), some (xI e), some (xI t), some (xI m), some (xI c), some (xL a), none, some (xL (plain a)), none, some (xR (kO z)), some (xR (kC z))] [] G2 1 100 := by
      intro q
      refine w_iload_n (pc' := 126) dX0_kind_125 rfl rfl ?_
      refine w_iconst (pc' := 127) dX0_kind_126 rfl (by decide) ?_
      -- at 127: .if_icmp .ne 16
      refine w_icmp_ne (pc' := 130) (tgt := 143) dX0_kind_127 rfl rfl (fun g => ?_) (fun g => ?_)
      · exact yes (hacc.mpr ⟨q, fun z => absurd z g⟩)
      · refine w_aload (pc' := 132) dX0_kind_130 rfl rfl ?_
        refine w_iconst (pc' := 133) dX0_kind_132 rfl (by decide) ?_
        refine w_iald (pc' := 134) dX0_kind_133 rfl tC (by omega) (by omega) ?_
        refine w_aload (pc' := 136) dX0_kind_134 rfl rfl ?_
        refine w_iconst (pc' := 137) dX0_kind_136 rfl (by decide) ?_
        refine w_iald (pc' := 138) dX0_kind_137 rfl tC (by omega) (by omega) ?_
        -- at 138: .if_icmp .eq 5
        rw [t0, t1]
        refine w_icmp_eq (pc' := 141) (tgt := 143) dX0_kind_138 rfl rfl (fun g2 => ?_) (fun g2 => ?_)
        · exact yes (hacc.mpr ⟨q, fun _ => g2⟩)
        · exact no (fun z => g2 ((hacc.mp z).2 g))
    refine w_ast9 (pc' := 91) dX0_kind_89 rfl rfl ?_
    refine w_aload (pc' := 93) dX0_kind_91 rfl rfl ?_
    refine w_get 0 (pc' := 96) dX0_kind_93 rfl fX0_94_2 tO rfl ?_
    refine w_ast10 (pc' := 98) dX0_kind_96 rfl rfl ?_
    refine w_iload_n (pc' := 99) dX0_kind_98 rfl rfl ?_
    refine w_iconst (pc' := 100) dX0_kind_99 rfl (by decide) ?_
    -- at 100: .if_icmp .ge 25
    refine w_icmp_ge (pc' := 103) (tgt := 125) dX0_kind_100 rfl rfl (fun g => ?_) (fun g => ?_)
    · exact last (fun z => by omega)
    · refine w_aload (pc' := 105) dX0_kind_103 rfl rfl ?_
      refine w_iconst (pc' := 106) dX0_kind_105 rfl (by decide) ?_
      refine w_iald (pc' := 107) dX0_kind_106 rfl tC (by omega) (by omega) ?_
      refine w_aload (pc' := 109) dX0_kind_107 rfl rfl ?_
      refine w_iconst (pc' := 110) dX0_kind_109 rfl (by decide) ?_
      refine w_iald (pc' := 111) dX0_kind_110 rfl tC (by omega) (by omega) ?_
      -- at 111: .if_icmp .ne 30
      rw [t0, t2]
      refine w_icmp_ne (pc' := 114) (tgt := 141) dX0_kind_111 rfl rfl (fun g2 => ?_) (fun g2 => ?_)
      · exact no (fun z => g2 ((hacc.mp z).1 (by omega)).1)
      · refine w_aload (pc' := 116) dX0_kind_114 rfl rfl ?_
        refine w_iconst (pc' := 117) dX0_kind_116 rfl (by decide) ?_
        refine w_iald (pc' := 118) dX0_kind_117 rfl tC (by omega) (by omega) ?_
        refine w_aload (pc' := 120) dX0_kind_118 rfl rfl ?_
        refine w_iconst (pc' := 121) dX0_kind_120 rfl (by decide) ?_
        refine w_iald (pc' := 122) dX0_kind_121 rfl tC (by omega) (by omega) ?_
        -- at 122: .if_icmp .ne 19
        rw [t1, t3]
        refine w_icmp_ne (pc' := 125) (tgt := 141) dX0_kind_122 rfl rfl (fun g3 => ?_) (fun g3 => ?_)
        · exact no (fun z => g3 ((hacc.mp z).1 (by omega)).2)
        · exact last (fun _ => ⟨g2, g3⟩)
  refine w_lload (pc' := 2) dX0_kind_0 rfl rfl ?_
  -- at 2: .invokestatic 76
  refine w_callS1 (pc' := 5) (mc := 0) (ms := 0) dX0_kind_2 rfl tX0_letters q200 q199 rfl (Nat.le_of_ble_eq_true rfl) (Nat.le_of_ble_eq_true rfl) ?_
  refine c_X0_letters hr ?_
  refine w_p1 ?_
  refine w_lst7 (pc' := 7) dX0_kind_5 rfl rfl ?_
  refine w_aload_n (pc' := 8) dX0_kind_7 rfl rfl ?_
  refine w_get 0 (pc' := 11) dX0_kind_8 rfl fX0_10_0 hof rfl ?_
  -- at 11: .invokevirtual 54
  refine w_callV0 (pc' := 14) (mc := 0) (ms := 0) dX0_kind_11 rfl tJ2_size q207 rfl rfl q208 q206 hl rfl (Nat.le_of_ble_eq_true rfl) (Nat.le_of_ble_eq_true rfl) ?_
  refine c_J2_size hw.2.1.1 ?_
  refine w_p1 ?_
  refine w_bipush (pc' := 16) dX0_kind_14 rfl (by decide +kernel) (by decide) ?_
  -- at 16: .if_icmp .eq 57
  refine w_icmp_eq (pc' := 19) (tgt := 73) dX0_kind_16 rfl rfl (fun q1 => ?_) (fun q1 => ?_)
  · exact bad (fun z => by have := z.1.1; omega)
  · refine w_iload_n (pc' := 20) dX0_kind_19 rfl rfl ?_
    -- at 20: .ifCond .lt 53
    refine w_if_lt (pc' := 23) (tgt := 73) dX0_kind_20 rfl rfl (fun q2 => ?_) (fun q2 => ?_)
    · exact bad (fun z => by have := z.1.2.1; omega)
    · refine w_iload_n (pc' := 24) dX0_kind_23 rfl rfl ?_
      refine w_ldc (z := 65535) (pc' := 26) dX0_kind_24 rfl q229 (by decide +kernel) (by decide) ?_
      -- at 26: .if_icmp .gt 47
      refine w_icmp_gt (pc' := 29) (tgt := 73) dX0_kind_26 rfl rfl (fun q3 => ?_) (fun q3 => ?_)
      · exact bad (fun z => by have := z.1.2.1; omega)
      · have tail : (t = 1 ∨ t = 2 ∨ t = 4) → tvW mX0_kind (d + 7) K 44 [some (xR oR), some (xI e), some (xI t), some (xI m), some (xI c), some (xL a), none, some (xL (ltr a)), none, none, none] [] G 3 109 := by
          intro ht
          refine w_iload (pc' := 46) dX0_kind_44 rfl rfl ?_
          -- at 46: .ifCond .lt 27
          refine w_if_lt (pc' := 49) (tgt := 73) dX0_kind_46 rfl rfl (fun q4 => ?_) (fun q4 => ?_)
          · exact bad (fun z => by have := z.1.2.2.2.1; omega)
          · refine w_iload (pc' := 51) dX0_kind_49 rfl rfl ?_
            refine w_sipush (pc' := 54) dX0_kind_51 rfl (by decide +kernel) (by decide) ?_
            -- at 54: .if_icmp .gt 19
            refine w_icmp_gt (pc' := 57) (tgt := 73) dX0_kind_54 rfl rfl (fun q5 => ?_) (fun q5 => ?_)
            · exact bad (fun z => by have := z.1.2.2.2.1; omega)
            · refine w_lload (pc' := 59) dX0_kind_57 rfl rfl ?_
              refine w_lconst (z := 0) (pc' := 60) dX0_kind_59 rfl rfl (by decide) ?_
              refine w_lcmp (pc' := 61) dX0_kind_60 rfl ?_
              -- at 61: .ifCond .lt 12
              refine w_if_lt (pc' := 64) (tgt := 73) dX0_kind_61 rfl rfl (fun q6 => ?_) (fun q6 => ?_)
              · have q6 := lCmp_lt.mp q6
                exact bad (fun z => by have z5 := z.1.2.2.2.2.1; have := plain_r a; unfold ltr at q6; rw [if_neg z5] at q6; omega)
              · have q6 := lCmp_ge.mp (show 0 ≤ lCmp _ _ by omega)
                have np : plain a ≠ 0 := fun z => by unfold ltr at q6; rw [if_pos z] at q6; omega
                refine w_aload_n (pc' := 65) dX0_kind_64 rfl rfl ?_
                refine w_lload (pc' := 67) dX0_kind_65 rfl rfl ?_
                -- at 67: .invokevirtual 87
                refine w_callV1 (pc' := 70) (mc := 0) (ms := 0) dX0_kind_67 rfl tX0_named q196 rfl rfl q197 q230 hof rfl (Nat.le_of_ble_eq_true rfl) (Nat.le_of_ble_eq_true rfl) ?_
                refine c_X0_named hw hK hr ?_
                refine w_p1 ?_
                refine w_if_lt (pc' := 73) (tgt := 75) dX0_kind_70 rfl rfl (fun q7 => ?_) (fun q7 => ?_)
                · exact main (by omega) ⟨by omega, by omega⟩ ht ⟨by omega, by omega⟩ np q7
                · exact bad (fun z => by have := z.2; omega)
        refine w_iload_n (pc' := 30) dX0_kind_29 rfl rfl ?_
        refine w_iconst (pc' := 31) dX0_kind_30 rfl (by decide) ?_
        -- at 31: .if_icmp .eq 13
        refine w_icmp_eq (pc' := 34) (tgt := 44) dX0_kind_31 rfl rfl (fun q4 => ?_) (fun q4 => ?_)
        · exact tail (Or.inl q4)
        · refine w_iload_n (pc' := 35) dX0_kind_34 rfl rfl ?_
          refine w_iconst (pc' := 36) dX0_kind_35 rfl (by decide) ?_
          -- at 36: .if_icmp .eq 8
          refine w_icmp_eq (pc' := 39) (tgt := 44) dX0_kind_36 rfl rfl (fun q5 => ?_) (fun q5 => ?_)
          · exact tail (Or.inr (Or.inl q5))
          · refine w_iload_n (pc' := 40) dX0_kind_39 rfl rfl ?_
            refine w_iconst (pc' := 41) dX0_kind_40 rfl (by decide) ?_
            -- at 41: .if_icmp .ne 32
            refine w_icmp_ne (pc' := 44) (tgt := 73) dX0_kind_41 rfl rfl (fun q6 => ?_) (fun q6 => ?_)
            · exact bad (fun z => by have := z.1.2.2.1; omega)
            · exact tail (Or.inr (Or.inr q6))
end
