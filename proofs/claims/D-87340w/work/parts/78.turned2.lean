set_option maxRecDepth 10000
theorem zbd_of {G : GH} (h : Rscr G) : zbd G 0 0 0 ∧ zbd G 1 0 0 := by
  obtain ⟨⟨a1, a2⟩, ⟨b1, b2⟩, -⟩ := h
  refine ⟨⟨a1, fun k k0 k1 => ?_⟩, b1, fun k k0 k1 => ?_⟩
  · obtain ⟨g, hg⟩ := a2 k k0 k1
    exact ⟨g, hg, fun m m0 m1 z => by omega⟩
  · obtain ⟨g, hg⟩ := b2 k k0 k1
    exact ⟨g, hg, fun m m0 m1 z => by omega⟩
theorem sfr_t {r : Int} {G G1 G2 : GH} (h : sfr r G G1) (h' : sfr r G1 G2) : sfr r G G2 := fun q q1 q2 q3 => (h' q q1 q2 q3).trans (h q q1 q2 q3)
theorem sfr_0 {r : Int} {G G1 : GH} (h : ∀ q : Rl, ¬ (q.1 = 7 ∧ q.2.1 = 0) → G1 q = G q) : sfr r G G1 := fun q q1 _ _ => h q (by omega)
/-- boards and blocks may be used -/
theorem Rx_sfr {σ : MS} {w : RW} {G G' : GH} {r : Int} {H W : Nat} (hw : Rx σ w G) (hQ : qok σ) (hr : 0 ≤ r ∧ r < σ.1 29) (eH : (H : Int) = σ.2 26 r) (eW : (W : Int) = σ.2 27 r) (f : sfr r G G') (hu : rul G' r H W (uB σ r)) (z0 : zbd G' 0 0 0) (z1 : zbd G' 1 0 0) : Rx σ w G' := by
  obtain ⟨pl, cl, N, b, rg⟩ := w
  have f' : ∀ q : Rl, ¬ (q.1 = 7 ∧ (q.2.1 = 0 ∨ q.2.1 = 1)) → ¬ (q.1 = 21 ∧ q.2.1 = r) → ¬ ((33 ≤ q.1 ∧ q.1 < 38) ∧ -(40 * r + 40) ≤ q.2.1 ∧ q.2.1 ≤ -1 - 40 * r) → G' q = G q := fun q q1 q2 q3 => f q q1 (fun z => q2 (by rw [z]; exact ⟨rfl, rfl⟩)) q3
  obtain ⟨-, -, -, -, -, -, -, -, hx9, -⟩ := Rx_un hw
  refine Rx_rul (r := r) (H := H) (W := W) hw hQ hr.1 hr.2 (fun _ => rfl) (fun _ _ => rfl) (fun _ _ _ _ _ _ _ _ _ _ _ _ _ => rfl) eH eW (fun q q1 q2 q3 => f' q (by omega) q2 q3) ?_ hu
  obtain ⟨-, -, ⟨c1, c2⟩, ⟨d1, d2⟩, ⟨e, e1⟩, ⟨g, g1⟩⟩ := hx9
  refine ⟨⟨z0.1, fun i i0 i1 => ?_⟩, ⟨z1.1, fun i i0 i1 => ?_⟩, ⟨(f' _ (by simp only []; omega) (by simp only []; omega) (by simp only []; omega)).trans c1, fun i i0 i1 => ?_⟩, ⟨(f' _ (by simp only []; omega) (by simp only []; omega) (by simp only []; omega)).trans d1, fun i i0 i1 => ?_⟩, ⟨e, (f' _ (by simp only []; omega) (by simp only []; omega) (by simp only []; omega)).trans e1⟩, ⟨g, (f' _ (by simp only []; omega) (by simp only []; omega) (by simp only []; omega)).trans g1⟩⟩
  · obtain ⟨g, hg, -⟩ := z0.2 i i0 i1
    exact ⟨g, hg⟩
  · obtain ⟨g, hg, -⟩ := z1.2 i i0 i1
    exact ⟨g, hg⟩
  · obtain ⟨g, hg⟩ := c2 i i0 i1
    exact ⟨g, (f' _ (by simp only []; omega) (by simp only []; omega) (by simp only []; omega)).trans hg⟩
  · obtain ⟨g, hg⟩ := d2 i i0 i1
    exact ⟨g, (f' _ (by simp only []; omega) (by simp only []; omega) (by simp only []; omega)).trans hg⟩
section
variable {d : Nat} {K : Option XV → GH → Prop} {G : GH} {bc bs : Nat} {σ : MS} {w : RW}
/-- step by step -/
theorem c_X0_isTurned_3 {p r n u ma li : Int} {rg : Option Rl} {H W : Nat} {L0 : Int → Int → Prop} {v4 v5 v6 v7 v8 v9 : Option XV} (hof : off G u ma li rg) (hkin : Rkin σ G) (hK : kok σ) (hQ : qok σ) (hr : 0 ≤ r ∧ r < σ.1 29) (hU : rul G r H W (uB σ r)) (eH : (H : Int) = σ.2 26 r) (eW : (W : Int) = σ.2 27 r) (hL : bbd G 0 L0) (hN : zbd G 1 0 0) (hn : 0 ≤ n ∧ n ≤ 5)
    (h1 : (∃ s : Nat, (s : Int) < n ∧ ∃ k m, (0 ≤ k ∧ k < 40) ∧ (0 ≤ m ∧ m < 8) ∧ m % 2 = 1 ∧ lyN σ r L0 s k m) → ∀ G', sfr r G G' → rul G' r H W (uB σ r) → zbd G' 0 0 0 → zbd G' 1 0 0 → K (some (xI 1)) G')
    (h0 : ¬ (∃ s : Nat, (s : Int) < n ∧ ∃ k m, (0 ≤ k ∧ k < 40) ∧ (0 ≤ m ∧ m < 8) ∧ m % 2 = 1 ∧ lyN σ r L0 s k m) → ∀ G', sfr r G G' → rul G' r H W (uB σ r) → zbd G' 0 0 0 → zbd G' 1 0 0 → K (some (xI 0)) G') : tvW mX0_isTurned (d + 5) K 145 [some (xR oR), some (xR (pO p)), some (xR (uO r)), some (xI n), v4, v5, v6, v7, v8, v9] [] G 3200 12600 := by
  refine w_iconst (pc' := 146) dX0_isTurned_145 rfl (by decide) ?_
  refine w_ist4 (pc' := 148) dX0_isTurned_146 rfl rfl ?_
  -- at 148: .iload 4
  refine up (T := fun k => 0 ≤ k → ∀ (v5 v6 v7 v8 v9 : Option XV) (G1 : GH) (mc ms : Nat), sfr r G G1 → rul G1 r H W (uB σ r) → bbd G1 0 (lyN σ r L0 k.toNat) → zbd G1 1 0 0 → (∀ s : Nat, (s : Int) < k → ∀ k' m', (0 ≤ k' ∧ k' < 40) → (0 ≤ m' ∧ m' < 8) → m' % 2 = 1 → ¬ lyN σ r L0 s k' m') → 640 * (n - k) ≤ mc → 2520 * (n - k) ≤ ms → tvW mX0_isTurned (d + 5) K 148 [some (xR oR), some (xR (pO p)), some (xR (uO r)), some (xI n), (some (xI k)), v5, v6, v7, v8, v9] [] G1 mc ms) n hn.1 ?_ ?_ (Int.le_refl _) v5 v6 v7 v8 v9 G 3200 12600 (fun _ _ _ _ => rfl) hU hL hN (fun s hs => by omega) (by omega) (by omega)
  · intro _ v5 v6 v7 v8 v9 G1 mc ms f1 u1 b1' z1 hno _ _
    refine w_iload (pc' := 150) dX0_isTurned_148 rfl rfl ?_
    refine w_iload_n (pc' := 151) dX0_isTurned_150 rfl rfl ?_
    -- at 151: .if_icmp .ge 74
    refine w_icmp_ge (pc' := 154) (tgt := 225) dX0_isTurned_151 rfl rfl (fun h_ => ?_) (fun h_ => False.elim (by first | omega | (simp (decide := true) only [au_1, nu_2, au_lt, nu_lt, aw_e, nw_e, au_s, au_n, nu_s, nu_n, au_au, nu_nu, au_nu] at h_; omega)))
    refine w_iconst (pc' := 226) dX0_isTurned_225 rfl (by decide) ?_
    -- at 226: .ireturn
    refine w_zreturn dX0_isTurned_226 rfl (by first | exact Or.inl rfl | exact Or.inr rfl | omega) ?_
    refine h0 ?_ G1 f1 u1 (bbd_z b1') z1
    rintro ⟨s, hs, k, m, hk, hm, ho, hl⟩
    exact hno s hs k m hk hm ho hl
  · intro k k0 k1 ih _ v5 v6 v7 v8 v9 G1 mc ms f1 u1 b1' z1 hno hmc hms
    have hof1 := (f1 oR (by simp only []; omega) (rl_ne (by omega)) (by simp only []; omega)).trans hof
    have hof2 := hof1
    unfold off at hof2
    have kin1 : Rkin σ G1 := Rkin_fr2 (fun z hz => f1 z (by omega) (fun y => by rw [y] at hz; simp only [] at hz; omega) (by omega)) hkin
    have b6 := b1'.1
    obtain ⟨mc2, rfl⟩ : ∃ m', mc = m' + 640 := ⟨mc - 640, by omega⟩
    obtain ⟨ms2, rfl⟩ : ∃ m', ms = m' + 2520 := ⟨ms - 2520, by omega⟩
    have hk' : ((k.toNat : Nat) : Int) = k := by omega
    refine w_iload (pc' := 150) dX0_isTurned_148 rfl rfl ?_
    refine w_iload_n (pc' := 151) dX0_isTurned_150 rfl rfl ?_
    -- at 151: .if_icmp .ge 74
    refine w_icmp_ge (pc' := 154) (tgt := 225) dX0_isTurned_151 rfl rfl (fun h_ => False.elim (by first | omega | (simp (decide := true) only [au_1, nu_2, au_lt, nu_lt, aw_e, nw_e, au_s, au_n, nu_s, nu_n, au_au, nu_nu, au_nu] at h_; omega))) (fun h_ => ?_)
    refine w_aload_n (pc' := 155) dX0_isTurned_154 rfl rfl ?_
    refine w_get 9 (pc' := 158) dX0_isTurned_155 rfl fX0_33_0 hof2 rfl ?_
    refine w_ast5 (pc' := 160) dX0_isTurned_158 rfl rfl ?_
    refine w_aload (pc' := 162) dX0_isTurned_160 rfl rfl ?_
    -- at 162: .arraylength
    refine w_alenR (pc' := 163) dX0_isTurned_162 rfl b6 ?_
    refine w_ist6 (pc' := 165) dX0_isTurned_163 rfl rfl ?_
    refine w_iconst (pc' := 166) dX0_isTurned_165 rfl (by decide) ?_
    refine w_ist7 (pc' := 168) dX0_isTurned_166 rfl rfl ?_
    -- at 168: .iload 7
    refine up (T := fun q => 0 ≤ q → ∀ (v8 v9 : Option XV), (∀ k' m', (0 ≤ k' ∧ k' < q) → (0 ≤ m' ∧ m' < 8) → m' % 2 = 1 → ¬ lyN σ r L0 k.toNat k' m') → tvW mX0_isTurned (d + 5) K 168 [some (xR oR), some (xR (pO p)), some (xR (uO r)), some (xI n), (some (xI k)), (some (xR (6, 0, 0))), (some (xI 40)), (some (xI q)), v8, v9] [] G1 (mc2 + 640) (ms2 + 2520)) 40 (by omega) ?_ ?_ (Int.le_refl _) v8 v9 (fun k' m' z => by omega)
    · intro _ v8 v9 hno2
      refine w_iload (pc' := 170) dX0_isTurned_168 rfl rfl ?_
      refine w_iload (pc' := 172) dX0_isTurned_170 rfl rfl ?_
      -- at 172: .if_icmp .ge 42
      refine w_icmp_ge (pc' := 175) (tgt := 214) dX0_isTurned_172 rfl rfl (fun h_ => ?_) (fun h_ => False.elim (by first | omega | (simp (decide := true) only [au_1, nu_2, au_lt, nu_lt, aw_e, nw_e, au_s, au_n, nu_s, nu_n, au_au, nu_nu, au_nu] at h_; omega)))
      refine w_aload_n (pc' := 215) dX0_isTurned_214 rfl rfl ?_
      refine w_aload_n (pc' := 216) dX0_isTurned_215 rfl rfl ?_
      -- at 216: .invokevirtual 250
      refine w_callV1 (pc' := 219) (mc := 640) (ms := 2520) dX0_isTurned_216 rfl tX0_step q662 rfl rfl qs13 q660 hof2 rfl (Nat.le_of_ble_eq_true rfl) (Nat.le_of_ble_eq_true rfl) ?_
      refine c_X0_step hof1 kin1 hK hQ hr u1 eH eW b1' z1 (fun G2 f2 u2 b2 z2 => w_p0 ?_)
      refine w_inc4 (pc' := 222) dX0_isTurned_219 rfl rfl ⟨by first | omega | (simp (decide := true) only [au_1, nu_2, au_lt, nu_lt, aw_e, nw_e, au_s, au_n, nu_s, nu_n, au_au, nu_nu, au_nu]; omega), by first | omega | (simp (decide := true) only [au_1, nu_2, au_lt, nu_lt, aw_e, nw_e, au_s, au_n, nu_s, nu_n, au_au, nu_nu, au_nu]; omega)⟩ ?_
      refine w_goto (tgt := 148) dX0_isTurned_222 rfl ?_
      -- at 148: .iload 4
      refine ih (by omega) _ _ _ _ _ G2 mc2 ms2 (sfr_t f1 f2) u2 ?_ z2 (fun s hs k' m' a1 a2 a3 => ?_) (by omega) (by omega)
      · rw [show (k + 1).toNat = k.toNat + 1 by omega]
        exact b2
      · by_cases e : (s : Int) < k
        · exact hno s e k' m' a1 a2 a3
        · have e : s = k.toNat := by omega
          rw [e]
          exact hno2 k' m' a1 a2 a3
    · intro q q0 q1 ihq _ v8 v9 hno2
      obtain ⟨g, g1, g2⟩ := b1'.2 q q0 q1
      refine w_iload (pc' := 170) dX0_isTurned_168 rfl rfl ?_
      refine w_iload (pc' := 172) dX0_isTurned_170 rfl rfl ?_
      -- at 172: .if_icmp .ge 42
      refine w_icmp_ge (pc' := 175) (tgt := 214) dX0_isTurned_172 rfl rfl (fun h_ => False.elim (by first | omega | (simp (decide := true) only [au_1, nu_2, au_lt, nu_lt, aw_e, nw_e, au_s, au_n, nu_s, nu_n, au_au, nu_nu, au_nu] at h_; omega))) (fun h_ => ?_)
      refine w_aload (pc' := 177) dX0_isTurned_175 rfl rfl ?_
      refine w_iload (pc' := 179) dX0_isTurned_177 rfl rfl ?_
      refine w_aaldM (pc' := 180) dX0_isTurned_179 rfl b6 q0 (by omega) ?_
      refine w_ast8 (pc' := 182) dX0_isTurned_180 rfl rfl ?_
      refine w_iconst (pc' := 183) dX0_isTurned_182 rfl (by decide) ?_
      refine w_ist9 (pc' := 185) dX0_isTurned_183 rfl rfl ?_
      -- at 185: .iload 9
      refine up (T := fun j => 0 ≤ j → (∀ m', (0 ≤ m' ∧ m' < 2 * j + 1) → m' % 2 = 1 → ¬ lyN σ r L0 k.toNat q m') → tvW mX0_isTurned (d + 5) K 185 [some (xR oR), some (xR (pO p)), some (xR (uO r)), some (xI n), (some (xI k)), (some (xR (6, 0, 0))), (some (xI 40)), (some (xI q)), (some (xR (7, 0, q))), (some (xI (2 * j + 1)))] [] G1 (mc2 + 640) (ms2 + 2520)) (a := 0) 4 (by omega) ?_ ?_ (Int.le_refl _) (fun m' z1 z2 => by omega)
      · intro _ hno3
        refine w_iload (pc' := 187) dX0_isTurned_185 rfl rfl ?_
        refine w_bipush (pc' := 189) dX0_isTurned_187 rfl (by decide +kernel) (by decide) ?_
        -- at 189: .if_icmp .ge 19
        refine w_icmp_ge (pc' := 192) (tgt := 208) dX0_isTurned_189 rfl rfl (fun h_ => ?_) (fun h_ => False.elim (by first | omega | (simp (decide := true) only [au_1, nu_2, au_lt, nu_lt, aw_e, nw_e, au_s, au_n, nu_s, nu_n, au_au, nu_nu, au_nu] at h_; omega)))
        refine w_inc7 (pc' := 211) dX0_isTurned_208 rfl rfl ⟨by first | omega | (simp (decide := true) only [au_1, nu_2, au_lt, nu_lt, aw_e, nw_e, au_s, au_n, nu_s, nu_n, au_au, nu_nu, au_nu]; omega), by first | omega | (simp (decide := true) only [au_1, nu_2, au_lt, nu_lt, aw_e, nw_e, au_s, au_n, nu_s, nu_n, au_au, nu_nu, au_nu]; omega)⟩ ?_
        refine w_goto (tgt := 168) dX0_isTurned_211 rfl ?_
        -- at 168: .iload 7
        refine ihq (by omega) _ _ (fun k' m' a1 a2 a3 => ?_)
        by_cases e : k' = q
        · rw [e]
          exact hno3 m' ⟨a2.1, by omega⟩ a3
        · exact hno2 k' m' ⟨a1.1, by omega⟩ a2 a3
      · intro j j0 j1 ihj _ hno3
        have g2 := g2 (2 * j + 1) (by omega) (by omega)
        refine w_iload (pc' := 187) dX0_isTurned_185 rfl rfl ?_
        refine w_bipush (pc' := 189) dX0_isTurned_187 rfl (by decide +kernel) (by decide) ?_
        -- at 189: .if_icmp .ge 19
        refine w_icmp_ge (pc' := 192) (tgt := 208) dX0_isTurned_189 rfl rfl (fun h_ => False.elim (by first | omega | (simp (decide := true) only [au_1, nu_2, au_lt, nu_lt, aw_e, nw_e, au_s, au_n, nu_s, nu_n, au_au, nu_nu, au_nu] at h_; omega))) (fun h_ => ?_)
        refine w_aload (pc' := 194) dX0_isTurned_192 rfl rfl ?_
        refine w_iload (pc' := 196) dX0_isTurned_194 rfl rfl ?_
        refine w_zald (pc' := 197) dX0_isTurned_196 rfl g1 (by omega) (by omega) ?_
        -- at 197: .ifCond .eq 5
        rw [g2]
        by_cases hl : lyN σ r L0 k.toNat q (2 * j + 1)
        · rw [b1_t hl]
          refine w_if_eq (pc' := 200) (tgt := 202) dX0_isTurned_197 rfl rfl (fun h_ => False.elim (by first | omega | (simp (decide := true) only [au_1, nu_2, au_lt, nu_lt, aw_e, nw_e, au_s, au_n, nu_s, nu_n, au_au, nu_nu, au_nu] at h_; omega))) (fun h_ => ?_)
          refine w_iconst (pc' := 201) dX0_isTurned_200 rfl (by decide) ?_
          -- at 201: .ireturn
          refine w_zreturn dX0_isTurned_201 rfl (by first | exact Or.inl rfl | exact Or.inr rfl | omega) ?_
          exact h1 ⟨k.toNat, by omega, q, 2 * j + 1, ⟨q0, q1⟩, ⟨by omega, by omega⟩, by omega, hl⟩ G1 f1 u1 (bbd_z b1') z1
        · rw [b1_f hl]
          refine w_if_eq (pc' := 200) (tgt := 202) dX0_isTurned_197 rfl rfl (fun h_ => ?_) (fun h_ => False.elim (by first | omega | (simp (decide := true) only [au_1, nu_2, au_lt, nu_lt, aw_e, nw_e, au_s, au_n, nu_s, nu_n, au_au, nu_nu, au_nu] at h_; omega)))
          refine w_inc9 (pc' := 205) dX0_isTurned_202 rfl rfl ⟨by first | omega | (simp (decide := true) only [au_1, nu_2, au_lt, nu_lt, aw_e, nw_e, au_s, au_n, nu_s, nu_n, au_au, nu_nu, au_nu]; omega), by first | omega | (simp (decide := true) only [au_1, nu_2, au_lt, nu_lt, aw_e, nw_e, au_s, au_n, nu_s, nu_n, au_au, nu_nu, au_nu]; omega)⟩ ?_
          refine w_goto (tgt := 185) dX0_isTurned_205 rfl ?_
          -- at 185: .iload 9
          rw [show 2 * j + 1 + 2 = 2 * (j + 1) + 1 by omega]
          refine ihj (by omega) (fun m' a1 a2 => ?_)
          by_cases e : m' = 2 * j + 1
          · rw [e]
            exact hl
          · exact hno3 m' ⟨a1.1, by omega⟩ a2
end
