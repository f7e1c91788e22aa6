set_option maxRecDepth 10000
theorem isB_0 {σ : MS} {f i j : Int} : isB σ f i j = 0 ↔ σ.2 37 (64 * f + 8 * i + j) = 0 := by
  unfold isB
  split
  · constructor
    · intro z; omega
    · intro z; omega
  · split
    · constructor <;> intro _ <;> first | assumption | rfl
    · constructor
      · intro z; omega
      · intro z; contradiction
theorem lyB_o {σ : MS} {f i j : Int} {b : Int → Int} (hi : 0 ≤ i ∧ i < σ.2 35 f) (hj : 0 ≤ j ∧ j < σ.2 36 f) (ht : σ.2 37 (64 * f + 8 * i + j) = 0) : lyB σ f b i j = b (8 * i + j) := by
  unfold lyB
  rw [if_pos (show (0 ≤ i ∧ i < σ.2 35 f) ∧ 0 ≤ j ∧ j < σ.2 36 f from ⟨hi, hj⟩), ht, if_neg (by decide), if_neg (by decide)]
/-- the place that is chosen so far -/
def scn (σ : MS) (f : Int) (H W : Nat) (b l : Int → Int) (i j y x fw : Int) : Prop := (fw = 2147483647 ∧ ∀ q, opB σ f q → b q = 0 → ¬ (q / 8 < i ∨ q / 8 = i ∧ q % 8 < j)) ∨ ((0 ≤ y ∧ y < (H : Int)) ∧ (0 ≤ x ∧ x < (W : Int)) ∧ opB σ f (8 * y + x) ∧ b (8 * y + x) = 0 ∧ fw = nfB σ f b l (8 * y + x) ∧ (y < i ∨ y = i ∧ x < j) ∧ ∀ q, opB σ f q → b q = 0 → (q / 8 < i ∨ q / 8 = i ∧ q % 8 < j) → fw ≤ nfB σ f b l q ∧ (q < 8 * y + x → fw < nfB σ f b l q))
theorem scn_skip {σ : MS} {f : Int} {H W : Nat} {b l : Int → Int} {i j y x fw : Int} (hj : 0 ≤ j ∧ j < 8) (hn : ¬ (opB σ f (8 * i + j) ∧ b (8 * i + j) = 0)) (h : scn σ f H W b l i j y x fw) : scn σ f H W b l i (j + 1) y x fw := by
  have key : ∀ q, opB σ f q → b q = 0 → (q / 8 < i ∨ q / 8 = i ∧ q % 8 < j + 1) → (q / 8 < i ∨ q / 8 = i ∧ q % 8 < j) := by
    intro q q1 q2 q3
    by_cases e : q = 8 * i + j
    · rw [e] at q1 q2
      exact absurd ⟨q1, q2⟩ hn
    · omega
  rcases h with ⟨h1, h2⟩ | ⟨h1, h2, h3, h4, h5, h6, h7⟩
  · exact Or.inl ⟨h1, fun q q1 q2 q3 => h2 q q1 q2 (key q q1 q2 q3)⟩
  · exact Or.inr ⟨h1, h2, h3, h4, h5, by omega, fun q q1 q2 q3 => h7 q q1 q2 (key q q1 q2 q3)⟩
theorem scn_big {σ : MS} {f : Int} {H W : Nat} {b l : Int → Int} {i j y x fw : Int} (hj : 0 ≤ j ∧ j < 8) (hb : fw ≤ nfB σ f b l (8 * i + j)) (hx : W ≤ 8) (hf : fw ≠ 2147483647) (h : scn σ f H W b l i j y x fw) : scn σ f H W b l i (j + 1) y x fw := by
  rcases h with ⟨h1, h2⟩ | ⟨h1, h2, h3, h4, h5, h6, h7⟩
  · exact absurd h1 hf
  · refine Or.inr ⟨h1, h2, h3, h4, h5, by omega, fun q q1 q2 q3 => ?_⟩
    by_cases e : q = 8 * i + j
    · rw [e]
      exact ⟨hb, fun z => by omega⟩
    · exact h7 q q1 q2 (by omega)
theorem scn_take {σ : MS} {f : Int} {H W : Nat} {b l : Int → Int} {i j y x fw : Int} (hi : 0 ≤ i ∧ i < (H : Int)) (hj : 0 ≤ j ∧ j < (W : Int)) (hW : W ≤ 8) (ho : opB σ f (8 * i + j)) (hb0 : b (8 * i + j) = 0) (hb : nfB σ f b l (8 * i + j) < fw) (h : scn σ f H W b l i j y x fw) : scn σ f H W b l i (j + 1) i j (nfB σ f b l (8 * i + j)) := by
  refine Or.inr ⟨hi, hj, ho, hb0, rfl, Or.inr ⟨rfl, by omega⟩, fun q q1 q2 q3 => ?_⟩
  by_cases e : q = 8 * i + j
  · rw [e]
    exact ⟨Int.le_refl _, fun z => by omega⟩
  · rcases h with ⟨h1, h2⟩ | ⟨h1, h2, h3, h4, h5, h6, h7⟩
    · exact absurd (show q / 8 < i ∨ q / 8 = i ∧ q % 8 < j by omega) (h2 q q1 q2)
    · have := (h7 q q1 q2 (by omega)).1
      omega
section
variable {σ : MS} {f : Int} {H W : Nat} {u ma : Int} {rg : Option Rl} {mo most byc le least : Int}
theorem c_X10_next (hK : kok σ) (hF : fo1 σ) (hf : 0 ≤ f ∧ f < σ.1 40) (eH : (H : Int) = σ.2 35 f) (eW : (W : Int) = σ.2 36 f) (hll : 0 ≤ least ∧ least ≤ 1000) (hby : byc = 0 ∨ byc = 1) (hmm : most ≤ 1000000) (hmo : ∀ x, 0 ≤ x → (byc ≠ 0 → x ≤ 64001) → (x = mo ↔ x = most)) : ∀ (o D : Nat), 2 * o ≤ D → nxC σ f H W u ma rg mo most byc le least o D := by
  have hk1 := hK.1
  have hd := hF.2 f hf.1 hf.2
  intro o
  induction o with
  | zero =>
    intro D hD K G bc bs b l c A hne hb hl hc hle hA hE hp hS h
    have hO := hS.2.2.1
    refine w_aload_n (pc' := 1) dX10_next_0 rfl rfl ?_
    refine w_get 16 (pc' := 4) dX10_next_1 rfl fX10_110_8 hO rfl ?_
    -- at 4: .ifCond .ne 8
    refine w_if_ne (pc' := 7) (tgt := 12) dX10_next_4 rfl rfl (fun h_ => False.elim (by first | omega | (simp (decide := true) only [au_1, nu_2, au_lt, nu_lt, aw_e, nw_e, au_s, au_n, nu_s, nu_n, au_au, nu_nu, au_nu] at h_; omega))) (fun h_ => ?_)
    refine w_aload_n (pc' := 8) dX10_next_7 rfl rfl ?_
    -- at 8: .invokevirtual 143
    refine w_callV0 (pc' := 11) (mc := 0) (ms := 0) dX10_next_8 rfl tX10_keep q1001 rfl rfl qs33 q999 hO rfl (Nat.le_of_ble_eq_true rfl) (Nat.le_of_ble_eq_true rfl) ?_
    refine c_X10_keep hS hA hE hmm (by omega) (by omega) ⟨hc.1, by omega⟩ (hp rfl) (fun G1 f1 s1 hA1 => w_p0 ?_)
    refine w_return dX10_next_11 rfl ?_
    exact h G1 f1 s1 hA1
  | succ o ih =>
    intro D hD K G bc bs b l c A hne hb hl hc hle hA hE hp hS h
    obtain ⟨D, rfl⟩ : ∃ D', D = D' + 2 := ⟨D - 2, by omega⟩
    have IH := ih D (by omega)
    have eo : ((o + 1 : Nat) : Int) = (o : Int) + 1 := by omega
    rw [eo] at hne hc hS h
    have hne1 := ne_r (σ := σ) (f := f) (b := b)
    have hS0 := hS
    have hO := hS.2.2.1
    obtain ⟨g, g1, g2⟩ := hS.2.2.2.2.2.2
    have hbd := hS.2.2.2.1
    have hly := hS.2.2.2.2.1
    have hbd6 := hbd.1
    have hly6 := hly.1
    have nfr : ∀ q, 0 ≤ nfB σ f b l q ∧ nfB σ f b l q ≤ 320 := by
      intro q
      have := sm_r (f := fun n => b1 (cdB σ f b l q n)) (n := 8 * σ.1 5) 1 (by omega) (fun _ _ _ => b1_r _)
      unfold nfB
      omega
    have two : ∀ y x (v5 v6 : Option XV) (fw i : Int), (0 ≤ y ∧ y < (H : Int)) → (0 ≤ x ∧ x < (W : Int)) → opB σ f (8 * y + x) → b (8 * y + x) = 0 → fw = nfB σ f b l (8 * y + x) → npl σ f b l = 8 * y + x → tvW mX10_next (D + 2 + 6) K 113 [some (xR (fO f)), some (xI y), some (xI x), some (xI fw), some (xI i), v5, v6] [] G bc bs := by
      intro y x v5 v6 fw i hy hx hop hb0 efw enp
      have hR : srch σ f most byc least (o + 1) b l c A = lpG (fun n A => trG (cdB σ f) (σ.2 2) most byc least o b l c (8 * y + x) (srch σ f most byc least o) n A) (8 * σ.1 5).toNat 0 A := by
        show lpG (fun n A => trG (cdB σ f) (σ.2 2) most byc least o b l c (npl σ f b l) (nxA (cdB σ f) (npl σ f) (σ.2 2) (8 * σ.1 5).toNat most byc least o) n A) (8 * σ.1 5).toNat 0 A = _
        rw [enp]
        rfl
      have hFF : ∃ F : Int → SA → SA, F = fun n A => trG (cdB σ f) (σ.2 2) most byc least o b l c (8 * y + x) (srch σ f most byc least o) n A := ⟨_, rfl⟩
      obtain ⟨F, hFe⟩ := hFF
      rw [← hFe] at hR
      have Fno : ∀ n A, ¬ cdB σ f b l (8 * y + x) n → F n A = A := fun n A q => by rw [hFe]; exact trG_no q
      have Fend : ∀ n A, endA most A → F n A = A := fun n A q => by rw [hFe]; exact trG_end q
      have Fe : ∀ n A, F n A = trG (cdB σ f) (σ.2 2) most byc least o b l c (8 * y + x) (srch σ f most byc least o) n A := fun n A => by rw [hFe]
      clear hFe
      generalize hRR : srch σ f most byc least (o + 1) b l c A = R at *
      have hcd : ∀ k m, 0 ≤ m → m < 8 → (cdB σ f b l (8 * y + x) (8 * k + m) ↔ 0 < l k ∧ lie (σ.2 3 k) (σ.2 1 k) m = m ∧ mlB σ f b (8 * y + x) (8 * k + m + 1)) := by
        intro k m m0 m1
        unfold cdB
        rw [show (8 * k + m) / 8 = k by omega, show (8 * k + m) % 8 = m by omega]
      have skip : ∀ n n' A, 0 ≤ n → n ≤ n' → n' ≤ 8 * σ.1 5 → (∀ z, n ≤ z → z < n' → F z A = A) → lpG F (8 * σ.1 5 - n).toNat n A = lpG F (8 * σ.1 5 - n').toNat n' A := by
        intro n n' A n0 n1 n2 hz
        have z := lpG_skip (F := F) (A := A) (n' - n).toNat (8 * σ.1 5 - n').toNat n (fun q q0 q1 => hz q q0 (by omega))
        rw [show (n' - n).toNat + (8 * σ.1 5 - n').toNat = (8 * σ.1 5 - n).toNat by omega, show n + (((n' - n).toNat : Nat) : Int) = n' by omega] at z
        exact z
      refine w_iconst (pc' := 114) dX10_next_113 rfl (by decide) ?_
      refine w_ist4 (pc' := 116) dX10_next_114 rfl rfl ?_
      -- at 116: .iload 4
      refine up (T := fun k => 0 ≤ k → ∀ (v5 v6 : Option XV) (A1 : SA) (G1 : GH), ffo f G G1 → fsS σ f H W u ma rg mo byc le b l c (o + 1) A1 G1 → accJ most byc A1 → R = lpG F (8 * σ.1 5 - 8 * k).toNat (8 * k) A1 → tvW mX10_next (D + 2 + 6) K 116 [some (xR (fO f)), some (xI y), some (xI x), some (xI fw), some (xI k), v5, v6] [] G1 bc bs) (σ.1 5) hk1.1 ?_ ?_ (Int.le_refl _) v5 v6 A G (fun _ _ _ _ => rfl) hS0 hA (by rw [Int.mul_zero, Int.sub_zero]; exact hR)
      · intro _ v5 v6 A1 G1 f1 s1 hA1 eR
        have hO1 := s1.2.2.1
        have hof1 := s1.1
        unfold off at hof1
        have kin1 := s1.2.1
        obtain ⟨lf, hlO⟩ := lst_o kin1.1
        rw [show (8 * σ.1 5 - 8 * σ.1 5).toNat = 0 by omega] at eR
        have eR : R = A1 := eR
        refine w_iload (pc' := 118) dX10_next_116 rfl rfl ?_
        refine w_aload_n (pc' := 119) dX10_next_118 rfl rfl ?_
        refine w_get 19 (pc' := 122) dX10_next_119 rfl fX10_3_8 hO1 rfl ?_
        refine w_get 0 (pc' := 125) dX10_next_122 rfl fX10_52_0 hof1 rfl ?_
        -- at 125: .invokevirtual 72
        refine w_callV0 (pc' := 128) (mc := 0) (ms := 0) dX10_next_125 rfl tJ2_size q207 rfl rfl q208 q980 hlO rfl (Nat.le_of_ble_eq_true rfl) (Nat.le_of_ble_eq_true rfl) ?_
        refine c_J2_size kin1.1 ?_
        refine w_p1 ?_
        refine w_icmp_ge (pc' := 131) (tgt := 222) dX10_next_128 rfl rfl (fun h_ => ?_) (fun h_ => False.elim (by first | omega | (simp (decide := true) only [au_1, nu_2, au_lt, nu_lt, aw_e, nw_e, au_s, au_n, nu_s, nu_n, au_au, nu_nu, au_nu] at h_; omega)))
        refine w_return dX10_next_222 rfl ?_
        rw [eR] at h
        exact h G1 f1 s1 hA1
      · intro k k0 k1 ihk _ v5 v6 A1 G1 f1 s1 hA1 eR
        have hO1 := s1.2.2.1
        have hof1 := s1.1
        unfold off at hof1
        have kin1 := s1.2.1
        obtain ⟨lf, hlO⟩ := lst_o kin1.1
        have nf := nfr (8 * y + x)
        refine w_iload (pc' := 118) dX10_next_116 rfl rfl ?_
        refine w_aload_n (pc' := 119) dX10_next_118 rfl rfl ?_
        refine w_get 19 (pc' := 122) dX10_next_119 rfl fX10_3_8 hO1 rfl ?_
        refine w_get 0 (pc' := 125) dX10_next_122 rfl fX10_52_0 hof1 rfl ?_
        -- at 125: .invokevirtual 72
        refine w_callV0 (pc' := 128) (mc := 0) (ms := 0) dX10_next_125 rfl tJ2_size q207 rfl rfl q208 q980 hlO rfl (Nat.le_of_ble_eq_true rfl) (Nat.le_of_ble_eq_true rfl) ?_
        refine c_J2_size kin1.1 ?_
        refine w_p1 ?_
        refine w_icmp_ge (pc' := 131) (tgt := 222) dX10_next_128 rfl rfl (fun h_ => False.elim (by first | omega | (simp (decide := true) only [au_1, nu_2, au_lt, nu_lt, aw_e, nw_e, au_s, au_n, nu_s, nu_n, au_au, nu_nu, au_nu] at h_; omega))) (fun h_ => ?_)
        refine w_iload_n (pc' := 132) dX10_next_131 rfl rfl ?_
        -- at 132: .ifCond .le 90
        refine w_if_le (pc' := 135) (tgt := 222) dX10_next_132 rfl rfl (fun q => ?_) (fun q => ?_)
        · have nz := sm_z (f := fun n => b1 (cdB σ f b l (8 * y + x) n)) (n := 8 * σ.1 5) (fun _ _ _ => (b1_r _).1) (show nfB σ f b l (8 * y + x) = 0 by omega)
          rw [skip (8 * k) (8 * σ.1 5) A1 (by omega) (by omega) (by omega) (fun z z0 z1 => Fno z A1 (fun y' => by have := nz z (by omega) z1; rw [b1_t y'] at this; omega)), show (8 * σ.1 5 - 8 * σ.1 5).toNat = 0 by omega] at eR
          have eR : R = A1 := eR
          refine w_return dX10_next_222 rfl ?_
          rw [eR] at h
          exact h G1 f1 s1 hA1
        · refine w_iconst (pc' := 136) dX10_next_135 rfl (by decide) ?_
          refine w_ist5 (pc' := 138) dX10_next_136 rfl rfl ?_
          -- at 138: .iload 5
          refine up (T := fun m => 0 ≤ m → ∀ (v6 : Option XV) (A1 : SA) (G1 : GH), ffo f G G1 → fsS σ f H W u ma rg mo byc le b l c (o + 1) A1 G1 → accJ most byc A1 → R = lpG F (8 * σ.1 5 - (8 * k + m)).toNat (8 * k + m) A1 → tvW mX10_next (D + 2 + 6) K 138 [some (xR (fO f)), some (xI y), some (xI x), some (xI fw), some (xI k), (some (xI m)), v6] [] G1 bc bs) (a := 0) 8 (by omega) ?_ ?_ (Int.le_refl _) v6 A1 G1 f1 s1 hA1 (by rw [Int.add_zero]; exact eR)
          · intro _ v6 A1 G1 f1 s1 hA1 eR
            refine w_iload (pc' := 140) dX10_next_138 rfl rfl ?_
            refine w_bipush (pc' := 142) dX10_next_140 rfl (by decide +kernel) (by decide) ?_
            -- at 142: .if_icmp .ge 74
            refine w_icmp_ge (pc' := 145) (tgt := 216) dX10_next_142 rfl rfl (fun h_ => ?_) (fun h_ => False.elim (by first | omega | (simp (decide := true) only [au_1, nu_2, au_lt, nu_lt, aw_e, nw_e, au_s, au_n, nu_s, nu_n, au_au, nu_nu, au_nu] at h_; omega)))
            refine w_inc4 (pc' := 219) dX10_next_216 rfl rfl ⟨by first | omega | (simp (decide := true) only [au_1, nu_2, au_lt, nu_lt, aw_e, nw_e, au_s, au_n, nu_s, nu_n, au_au, nu_nu, au_nu]; omega), by first | omega | (simp (decide := true) only [au_1, nu_2, au_lt, nu_lt, aw_e, nw_e, au_s, au_n, nu_s, nu_n, au_au, nu_nu, au_nu]; omega)⟩ ?_
            refine w_goto (tgt := 116) dX10_next_219 rfl ?_
            -- at 116: .iload 4
            refine ihk (by omega) _ _ A1 G1 f1 s1 hA1 ?_
            rw [show 8 * (k + 1) = 8 * k + 8 by omega]
            exact eR
          · intro m m0 m1 ihm _ v6 A1 G1 f1 s1 hA1 eR
            have hO1 := s1.2.2.1
            have hof1 := s1.1
            unfold off at hof1
            have kin1 := s1.2.1
            obtain ⟨lf, hlO⟩ := lst_o kin1.1
            obtain ⟨g', g1', g2'⟩ := s1.2.2.2.2.2.2
            have hgk := g2' k k0 k1
            have hlk := hl k k0 k1
            have tl := kin1.2 k k0 k1
            obtain ⟨-, tT, -, -⟩ := hK.2 k k0 k1
            have brk : (∀ z, 8 * k + m ≤ z → z < 8 * (k + 1) → F z A1 = A1) → tvW mX10_next (D + 2 + 6) K 216 [some (xR (fO f)), some (xI y), some (xI x), some (xI fw), some (xI k), (some (xI m)), v6] [] G1 bc bs := by
              intro hz
              refine w_inc4 (pc' := 219) dX10_next_216 rfl rfl ⟨by first | omega | (simp (decide := true) only [au_1, nu_2, au_lt, nu_lt, aw_e, nw_e, au_s, au_n, nu_s, nu_n, au_au, nu_nu, au_nu]; omega), by first | omega | (simp (decide := true) only [au_1, nu_2, au_lt, nu_lt, aw_e, nw_e, au_s, au_n, nu_s, nu_n, au_au, nu_nu, au_nu]; omega)⟩ ?_
              refine w_goto (tgt := 116) dX10_next_219 rfl ?_
              -- at 116: .iload 4
              refine ihk (by omega) _ _ A1 G1 f1 s1 hA1 ?_
              rw [eR]
              exact skip _ _ A1 (by omega) (by omega) (by omega) hz
            have e1 : (8 * σ.1 5 - (8 * k + m)).toNat = (8 * σ.1 5 - (8 * k + (m + 1))).toNat + 1 := by omega
            have eR2 : R = lpG F (8 * σ.1 5 - (8 * k + (m + 1))).toNat (8 * k + (m + 1)) (F (8 * k + m) A1) := by
              rw [eR, e1]
              show lpG F _ (8 * k + m + 1) (F (8 * k + m) A1) = _
              rw [Int.add_assoc]
            have nxt : ∀ (A2 : SA) (G2 : GH), F (8 * k + m) A1 = A2 → ffo f G G2 → fsS σ f H W u ma rg mo byc le b l c (o + 1) A2 G2 → accJ most byc A2 → tvW mX10_next (D + 2 + 6) K 210 [some (xR (fO f)), some (xI y), some (xI x), some (xI fw), some (xI k), (some (xI m)), v6] [] G2 bc bs := by
              intro A2 G2 eA f2 s2 hA2
              rw [eA] at eR2
              refine w_inc5 (pc' := 213) dX10_next_210 rfl rfl ⟨by first | omega | (simp (decide := true) only [au_1, nu_2, au_lt, nu_lt, aw_e, nw_e, au_s, au_n, nu_s, nu_n, au_au, nu_nu, au_nu]; omega), by first | omega | (simp (decide := true) only [au_1, nu_2, au_lt, nu_lt, aw_e, nw_e, au_s, au_n, nu_s, nu_n, au_au, nu_nu, au_nu]; omega)⟩ ?_
              refine w_goto (tgt := 138) dX10_next_213 rfl ?_
              -- at 138: .iload 5
              exact ihm (by omega) _ A2 G2 f2 s2 hA2 eR2
            refine w_iload (pc' := 140) dX10_next_138 rfl rfl ?_
            refine w_bipush (pc' := 142) dX10_next_140 rfl (by decide +kernel) (by decide) ?_
            -- at 142: .if_icmp .ge 74
            refine w_icmp_ge (pc' := 145) (tgt := 216) dX10_next_142 rfl rfl (fun h_ => False.elim (by first | omega | (simp (decide := true) only [au_1, nu_2, au_lt, nu_lt, aw_e, nw_e, au_s, au_n, nu_s, nu_n, au_au, nu_nu, au_nu] at h_; omega))) (fun h_ => ?_)
            refine w_aload_n (pc' := 146) dX10_next_145 rfl rfl ?_
            refine w_get 4 (pc' := 149) dX10_next_146 rfl fX10_19_8 hO1 rfl ?_
            refine w_iload (pc' := 151) dX10_next_149 rfl rfl ?_
            refine w_iald (pc' := 152) dX10_next_151 rfl g1' k0 (by omega) ?_
            -- at 152: .ifCond .le 64
            rw [hgk]
            refine w_if_le (pc' := 155) (tgt := 216) dX10_next_152 rfl rfl (fun q2 => ?_) (fun q2 => ?_)
            · refine brk (fun z z0 z1 => Fno z A1 (fun y' => ?_))
              have y1 := y'.1
              rw [show z / 8 = k by omega] at y1
              omega
            · refine w_aload_n (pc' := 156) dX10_next_155 rfl rfl ?_
              -- at 156: .invokevirtual 150
              refine w_callV0 (pc' := 159) (mc := 0) (ms := 0) dX10_next_156 rfl tX10_ends q1010 rfl rfl qs35 q1008 hO1 rfl (Nat.le_of_ble_eq_true rfl) (Nat.le_of_ble_eq_true rfl) ?_
              refine c_X10_ends s1 hA1 hmo (fun q3 => w_p1 ?_) (fun q3 => w_p1 ?_)
              · refine w_if_ne (pc' := 162) (tgt := 216) dX10_next_159 rfl rfl (fun h_ => ?_) (fun h_ => False.elim (by first | omega | (simp (decide := true) only [au_1, nu_2, au_lt, nu_lt, aw_e, nw_e, au_s, au_n, nu_s, nu_n, au_au, nu_nu, au_nu] at h_; omega)))
                exact brk (fun z _ _ => Fend z A1 q3)
              · refine w_if_ne (pc' := 162) (tgt := 216) dX10_next_159 rfl rfl (fun h_ => False.elim (by first | omega | (simp (decide := true) only [au_1, nu_2, au_lt, nu_lt, aw_e, nw_e, au_s, au_n, nu_s, nu_n, au_au, nu_nu, au_nu] at h_; omega))) (fun h_ => ?_)
                refine w_aload_n (pc' := 163) dX10_next_162 rfl rfl ?_
                refine w_get 19 (pc' := 166) dX10_next_163 rfl fX10_3_8 hO1 rfl ?_
                refine w_get 0 (pc' := 169) dX10_next_166 rfl fX10_52_0 hof1 rfl ?_
                refine w_iload (pc' := 171) dX10_next_169 rfl rfl ?_
                -- at 171: .invokevirtual 56
                refine w_callV1 (pc' := 174) (mc := 0) (ms := 0) dX10_next_171 rfl tJ2_get q211 rfl rfl q212 q952 hlO rfl (Nat.le_of_ble_eq_true rfl) (Nat.le_of_ble_eq_true rfl) ?_
                refine c_J2_get kin1.1 ⟨k0, k1⟩ ?_
                refine w_p1 ?_
                refine w_cast (pc' := 177) dX10_next_174 rfl tl.1 rfl q953 ?_
                refine w_iload (pc' := 179) dX10_next_177 rfl rfl ?_
                -- at 179: .invokevirtual 76
                refine w_callV1 (pc' := 182) (mc := 0) (ms := 0) dX10_next_179 rfl tX2_lies q327 rfl rfl q328 q954 tl.1 rfl (Nat.le_of_ble_eq_true rfl) (Nat.le_of_ble_eq_true rfl) ?_
                refine c_X2_lies tl tT ⟨m0, m1⟩ ?_
                refine w_p1 ?_
                refine w_iload (pc' := 184) dX10_next_182 rfl rfl ?_
                -- at 184: .if_icmp .ne 26
                refine w_icmp_ne (pc' := 187) (tgt := 210) dX10_next_184 rfl rfl (fun q4 => ?_) (fun q4 => ?_)
                · exact nxt A1 G1 (Fno _ _ (fun z => q4 ((hcd k m m0 m1).mp z).2.1)) f1 s1 hA1
                · refine w_aload_n (pc' := 188) dX10_next_187 rfl rfl ?_
                  refine w_iload_n (pc' := 189) dX10_next_188 rfl rfl ?_
                  refine w_iload_n (pc' := 190) dX10_next_189 rfl rfl ?_
                  refine w_iload (pc' := 192) dX10_next_190 rfl rfl ?_
                  refine w_iload (pc' := 194) dX10_next_192 rfl rfl ?_
                  -- at 194: .invokevirtual 79
                  refine w_callV4 (pc' := 197) (mc := 0) (ms := 0) dX10_next_194 rfl tX10_fits q988 rfl rfl qs30 q986 hO1 rfl (Nat.le_of_ble_eq_true rfl) (Nat.le_of_ble_eq_true rfl) ?_
                  refine c_X10_fits (fsS_R s1) hK hF hf eH eW hb (by omega) (by omega) ⟨k0, k1⟩ ⟨m0, m1⟩ (fun q5 => w_p1 ?_) (fun q5 => w_p1 ?_)
                  · have hc1 := (hcd k m m0 m1).mpr ⟨by omega, q4, q5⟩
                    have fy := (Fe _ A1).trans (trG_yes hc1 q3)
                    rw [show (8 * k + m) / 8 = k by omega] at fy
                    refine w_if_eq (pc' := 200) (tgt := 210) dX10_next_197 rfl rfl (fun h_ => False.elim (by first | omega | (simp (decide := true) only [au_1, nu_2, au_lt, nu_lt, aw_e, nw_e, au_s, au_n, nu_s, nu_n, au_au, nu_nu, au_nu] at h_; omega))) (fun h_ => ?_)
                    refine w_aload_n (pc' := 201) dX10_next_200 rfl rfl ?_
                    refine w_iload_n (pc' := 202) dX10_next_201 rfl rfl ?_
                    refine w_iload_n (pc' := 203) dX10_next_202 rfl rfl ?_
                    refine w_iload (pc' := 205) dX10_next_203 rfl rfl ?_
                    refine w_iload (pc' := 207) dX10_next_205 rfl rfl ?_
                    -- at 207: .invokevirtual 153
                    refine w_callV4 (pc' := 210) (mc := 0) (ms := 0) dX10_next_207 rfl tX10_tries q1014 rfl rfl qs36 q1012 hO1 rfl (Nat.le_of_ble_eq_true rfl) (Nat.le_of_ble_eq_true rfl) ?_
                    refine c_X10_tries IH s1 hK hF hf eH eW hb hl (by omega) (by omega) hle hll hby hA1 q3 hne hop hb0 hy hx ⟨k0, k1⟩ ⟨m0, m1⟩ (by omega) (fun A2 eA G2 f2 s2 hA2 => w_p0 ?_)
                    exact nxt A2 G2 (by rw [eA]; exact fy) (ffo_t f1 f2) s2 hA2
                  · refine w_if_eq (pc' := 200) (tgt := 210) dX10_next_197 rfl rfl (fun h_ => ?_) (fun h_ => False.elim (by first | omega | (simp (decide := true) only [au_1, nu_2, au_lt, nu_lt, aw_e, nw_e, au_s, au_n, nu_s, nu_n, au_au, nu_nu, au_nu] at h_; omega)))
                    exact nxt A1 G1 (Fno _ _ (fun z => q5 ((hcd k m m0 m1).mp z).2.2)) f1 s1 hA1
    refine w_aload_n (pc' := 1) dX10_next_0 rfl rfl ?_
    refine w_get 16 (pc' := 4) dX10_next_1 rfl fX10_110_8 hO rfl ?_
    -- at 4: .ifCond .ne 8
    refine w_if_ne (pc' := 7) (tgt := 12) dX10_next_4 rfl rfl (fun h_ => ?_) (fun h_ => False.elim (by first | omega | (simp (decide := true) only [au_1, nu_2, au_lt, nu_lt, aw_e, nw_e, au_s, au_n, nu_s, nu_n, au_au, nu_nu, au_nu] at h_; omega)))
    refine w_iconst (pc' := 13) dX10_next_12 rfl (by decide) ?_
    refine w_ist1 (pc' := 14) dX10_next_13 rfl rfl ?_
    refine w_iconst (pc' := 15) dX10_next_14 rfl (by decide) ?_
    refine w_ist2 (pc' := 16) dX10_next_15 rfl rfl ?_
    refine w_ldc (z := 2147483647) (pc' := 18) dX10_next_16 rfl q979 (by decide +kernel) (by decide) ?_
    refine w_ist3 (pc' := 19) dX10_next_18 rfl rfl ?_
    refine w_iconst (pc' := 20) dX10_next_19 rfl (by decide) ?_
    refine w_ist4 (pc' := 22) dX10_next_20 rfl rfl ?_
    -- at 22: .iload 4
    refine up (T := fun i => 0 ≤ i → ∀ (y x fw : Int) (v5 v6 : Option XV), scn σ f H W b l i 0 y x fw → tvW mX10_next (D + 2 + 6) K 22 [some (xR (fO f)), some (xI y), some (xI x), some (xI fw), some (xI i), v5, v6] [] G bc bs) (H : Int) (by omega) ?_ ?_ (Int.le_refl _) (-1) (-1) 2147483647 none none (Or.inl ⟨rfl, fun q q1 _ q3 => by have := q1.1; omega⟩)
    · intro _ y x fw v5 v6 s
      refine w_iload (pc' := 24) dX10_next_22 rfl rfl ?_
      refine w_aload_n (pc' := 25) dX10_next_24 rfl rfl ?_
      refine w_get 0 (pc' := 28) dX10_next_25 rfl fX10_22_8 hO rfl ?_
      -- at 28: .if_icmp .ge 85
      refine w_icmp_ge (pc' := 31) (tgt := 113) dX10_next_28 rfl rfl (fun h_ => ?_) (fun h_ => False.elim (by first | omega | (simp (decide := true) only [au_1, nu_2, au_lt, nu_lt, aw_e, nw_e, au_s, au_n, nu_s, nu_n, au_au, nu_nu, au_nu] at h_; omega)))
      rcases s with ⟨s1, s2⟩ | ⟨s1, s2, s3, s4, s5, s6, s7⟩
      · have z := ne_0 (σ := σ) (f := f) (b := b) (fun q q1 q2 => s2 q q1 q2 (by have := q1.1; omega))
        omega
      · refine two y x _ _ fw _ s1 s2 s3 s4 s5 (npl_hit (by omega) (by omega) ⟨s3, s4, fun q q1 q2 => ?_⟩)
        have := s7 q q1 q2 (by have := q1.1; omega)
        rw [s5] at this
        exact this
    · intro i i0 i1 ihi _ y x fw v5 v6 s
      obtain ⟨gi, gi1, gi2⟩ := hbd.2 i i0 i1
      obtain ⟨gl, gl1, gl2⟩ := hly.2 i i0 i1
      refine w_iload (pc' := 24) dX10_next_22 rfl rfl ?_
      refine w_aload_n (pc' := 25) dX10_next_24 rfl rfl ?_
      refine w_get 0 (pc' := 28) dX10_next_25 rfl fX10_22_8 hO rfl ?_
      -- at 28: .if_icmp .ge 85
      refine w_icmp_ge (pc' := 31) (tgt := 113) dX10_next_28 rfl rfl (fun h_ => False.elim (by first | omega | (simp (decide := true) only [au_1, nu_2, au_lt, nu_lt, aw_e, nw_e, au_s, au_n, nu_s, nu_n, au_au, nu_nu, au_nu] at h_; omega))) (fun h_ => ?_)
      refine w_iconst (pc' := 32) dX10_next_31 rfl (by decide) ?_
      refine w_ist5 (pc' := 34) dX10_next_32 rfl rfl ?_
      -- at 34: .iload 5
      refine up (T := fun j => 0 ≤ j → ∀ (y x fw : Int) (v6 : Option XV), scn σ f H W b l i j y x fw → tvW mX10_next (D + 2 + 6) K 34 [some (xR (fO f)), some (xI y), some (xI x), some (xI fw), some (xI i), (some (xI j)), v6] [] G bc bs) (a := 0) (W : Int) (by omega) ?_ ?_ (Int.le_refl _) y x fw v6 s
      · intro _ y x fw v6 s
        refine w_iload (pc' := 36) dX10_next_34 rfl rfl ?_
        refine w_aload_n (pc' := 37) dX10_next_36 rfl rfl ?_
        refine w_get 1 (pc' := 40) dX10_next_37 rfl fX10_26_8 hO rfl ?_
        -- at 40: .if_icmp .ge 67
        refine w_icmp_ge (pc' := 43) (tgt := 107) dX10_next_40 rfl rfl (fun h_ => ?_) (fun h_ => False.elim (by first | omega | (simp (decide := true) only [au_1, nu_2, au_lt, nu_lt, aw_e, nw_e, au_s, au_n, nu_s, nu_n, au_au, nu_nu, au_nu] at h_; omega)))
        refine w_inc4 (pc' := 110) dX10_next_107 rfl rfl ⟨by first | omega | (simp (decide := true) only [au_1, nu_2, au_lt, nu_lt, aw_e, nw_e, au_s, au_n, nu_s, nu_n, au_au, nu_nu, au_nu]; omega), by first | omega | (simp (decide := true) only [au_1, nu_2, au_lt, nu_lt, aw_e, nw_e, au_s, au_n, nu_s, nu_n, au_au, nu_nu, au_nu]; omega)⟩ ?_
        refine w_goto (tgt := 22) dX10_next_110 rfl ?_
        -- at 22: .iload 4
        refine ihi (by omega) y x fw _ _ ?_
        have key : ∀ q, opB σ f q → ((q / 8 < i + 1 ∨ q / 8 = i + 1 ∧ q % 8 < 0) ↔ (q / 8 < i ∨ q / 8 = i ∧ q % 8 < (W : Int))) := by
          intro q q1
          have := q1.1
          omega
        rcases s with ⟨s1, s2⟩ | ⟨s1, s2, s3, s4, s5, s6, s7⟩
        · exact Or.inl ⟨s1, fun q q1 q2 q3 => s2 q q1 q2 ((key q q1).mp q3)⟩
        · exact Or.inr ⟨s1, s2, s3, s4, s5, by omega, fun q q1 q2 q3 => s7 q q1 q2 ((key q q1).mp q3)⟩
      · intro j j0 j1 ihj _ y x fw v6 s
        have x1 := gi2 j j0 j1
        have x2 := gl2 j j0 j1
        simp only [] at x2
        have nf := nfr (8 * i + j)
        have nxt : ∀ (y x fw : Int) (v6 : Option XV), scn σ f H W b l i (j + 1) y x fw → tvW mX10_next (D + 2 + 6) K 101 [some (xR (fO f)), some (xI y), some (xI x), some (xI fw), some (xI i), (some (xI j)), v6] [] G bc bs := by
          intro y x fw v6 s
          refine w_inc5 (pc' := 104) dX10_next_101 rfl rfl ⟨by first | omega | (simp (decide := true) only [au_1, nu_2, au_lt, nu_lt, aw_e, nw_e, au_s, au_n, nu_s, nu_n, au_au, nu_nu, au_nu]; omega), by first | omega | (simp (decide := true) only [au_1, nu_2, au_lt, nu_lt, aw_e, nw_e, au_s, au_n, nu_s, nu_n, au_au, nu_nu, au_nu]; omega)⟩ ?_
          refine w_goto (tgt := 34) dX10_next_104 rfl ?_
          -- at 34: .iload 5
          exact ihj (by omega) y x fw v6 s
        have hfw : fw = 2147483647 ∨ 0 ≤ fw ∧ fw ≤ 320 := by
          rcases s with ⟨s1, s2⟩ | ⟨s1, s2, s3, s4, s5, s6, s7⟩
          · exact Or.inl s1
          · have := nfr (8 * y + x)
            omega
        refine w_iload (pc' := 36) dX10_next_34 rfl rfl ?_
        refine w_aload_n (pc' := 37) dX10_next_36 rfl rfl ?_
        refine w_get 1 (pc' := 40) dX10_next_37 rfl fX10_26_8 hO rfl ?_
        -- at 40: .if_icmp .ge 67
        refine w_icmp_ge (pc' := 43) (tgt := 107) dX10_next_40 rfl rfl (fun h_ => False.elim (by first | omega | (simp (decide := true) only [au_1, nu_2, au_lt, nu_lt, aw_e, nw_e, au_s, au_n, nu_s, nu_n, au_au, nu_nu, au_nu] at h_; omega))) (fun h_ => ?_)
        refine w_aload_n (pc' := 44) dX10_next_43 rfl rfl ?_
        refine w_get 2 (pc' := 47) dX10_next_44 rfl fX10_31_8 hO rfl ?_
        refine w_iload (pc' := 49) dX10_next_47 rfl rfl ?_
        refine w_aaldM (pc' := 50) dX10_next_49 rfl hbd6 i0 i1 ?_
        refine w_iload (pc' := 52) dX10_next_50 rfl rfl ?_
        refine w_iald (pc' := 53) dX10_next_52 rfl gi1 j0 j1 ?_
        -- at 53: .ifCond .ne 48
        rw [x1]
        by_cases ht : σ.2 37 (64 * f + 8 * i + j) = 0
        · rw [isB_0.mpr ht]
          have hop : opB σ f (8 * i + j) := ⟨⟨by omega, by omega, by omega⟩, by rw [← Int.add_assoc]; exact ht⟩
          rw [lyB_o ⟨i0, by omega⟩ ⟨j0, by omega⟩ ht] at x2
          have hbb := hb (8 * i + j) (by omega) (by omega) (by omega)
          refine w_if_ne (pc' := 56) (tgt := 101) dX10_next_53 rfl rfl (fun h_ => False.elim (by first | omega | (simp (decide := true) only [au_1, nu_2, au_lt, nu_lt, aw_e, nw_e, au_s, au_n, nu_s, nu_n, au_au, nu_nu, au_nu] at h_; omega))) (fun h_ => ?_)
          refine w_aload_n (pc' := 57) dX10_next_56 rfl rfl ?_
          refine w_get 5 (pc' := 60) dX10_next_57 rfl fX10_34_8 hO rfl ?_
          refine w_iload (pc' := 62) dX10_next_60 rfl rfl ?_
          refine w_aaldM (pc' := 63) dX10_next_62 rfl hly6 i0 i1 ?_
          refine w_iload (pc' := 65) dX10_next_63 rfl rfl ?_
          refine w_iald (pc' := 66) dX10_next_65 rfl gl1 j0 j1 ?_
          -- at 66: .ifCond .lt 6
          rw [x2]
          refine w_if_lt (pc' := 69) (tgt := 72) dX10_next_66 rfl rfl (fun q => ?_) (fun q => ?_)
          · have hb0 : b (8 * i + j) = 0 := by omega
            refine w_aload_n (pc' := 73) dX10_next_72 rfl rfl ?_
            refine w_iload (pc' := 75) dX10_next_73 rfl rfl ?_
            refine w_iload (pc' := 77) dX10_next_75 rfl rfl ?_
            refine w_iload_n (pc' := 78) dX10_next_77 rfl rfl ?_
            -- at 78: .invokevirtual 146
            refine w_callV3 (pc' := 81) (mc := 0) (ms := 0) dX10_next_78 rfl tX10_fitting q1006 rfl rfl qs34 q1004 hO rfl (Nat.le_of_ble_eq_true rfl) (Nat.le_of_ble_eq_true rfl) ?_
            refine c_X10_fitting (fsS_R hS0) hK hF hf eH eW hb hl g1 g2 (by omega) (by omega) (fun r hr => w_p1 ?_)
            refine w_ist6 (pc' := 83) dX10_next_81 rfl rfl ?_
            refine w_iload (pc' := 85) dX10_next_83 rfl rfl ?_
            refine w_iload_n (pc' := 86) dX10_next_85 rfl rfl ?_
            -- at 86: .if_icmp .lt 6
            refine w_icmp_lt (pc' := 89) (tgt := 92) dX10_next_86 rfl rfl (fun q2 => ?_) (fun q2 => ?_)
            · have er : r = nfB σ f b l (8 * i + j) := by omega
              rw [er] at q2 ⊢
              refine w_iload (pc' := 94) dX10_next_92 rfl rfl ?_
              refine w_ist3 (pc' := 95) dX10_next_94 rfl rfl ?_
              refine w_iload (pc' := 97) dX10_next_95 rfl rfl ?_
              refine w_ist1 (pc' := 98) dX10_next_97 rfl rfl ?_
              refine w_iload (pc' := 100) dX10_next_98 rfl rfl ?_
              refine w_ist2 (pc' := 101) dX10_next_100 rfl rfl ?_
              -- at 101: .iinc 5 1
              exact nxt i j _ _ (scn_take ⟨i0, i1⟩ ⟨j0, j1⟩ (by omega) hop hb0 q2 s)
            · refine w_goto (tgt := 101) dX10_next_89 rfl ?_
              -- at 101: .iinc 5 1
              exact nxt y x fw _ (scn_big ⟨j0, by omega⟩ (by omega) (by omega) (by omega) s)
          · refine w_goto (tgt := 101) dX10_next_69 rfl ?_
            -- at 101: .iinc 5 1
            exact nxt y x fw _ (scn_skip ⟨j0, by omega⟩ (fun z => by omega) s)
        · have hz : isB σ f i j ≠ 0 := fun z => ht (isB_0.mp z)
          refine w_if_ne (pc' := 56) (tgt := 101) dX10_next_53 rfl rfl (fun h_ => ?_) (fun h_ => False.elim (by first | omega | (simp (decide := true) only [au_1, nu_2, au_lt, nu_lt, aw_e, nw_e, au_s, au_n, nu_s, nu_n, au_au, nu_nu, au_nu] at h_; omega)))
          exact nxt y x fw _ (scn_skip ⟨j0, by omega⟩ (fun z => ht (by have := z.1.2; rw [← Int.add_assoc] at this; exact this)) s)
end
