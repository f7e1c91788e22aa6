set_option maxRecDepth 10000
def rid (n made N k i : Int) : Int := if k = n then made + i else -1 - N - 60 * k - i
/-- stage k of a growing pattern -/
def gsS (σ : MS) (r : Int) (P : GP) (m N n : Int) (H W : Nat) (k : Int) (G Gk : GH) : Prop := (∀ z : Rl, ¬ ((14 ≤ z.1 ∧ z.1 < 18) ∧ (σ.1 9 ≤ z.2.1 ∧ z.2.1 < σ.1 9 + gpM σ r m n.toNat ∨ -(N + 400) ≤ z.2.1 ∧ z.2.1 < -N)) → ¬ ((z.1 = 30 ∨ z.1 = 31) ∧ N ≤ z.2.1 ∧ z.2.1 < N + 400) → ¬ (z.1 = 21 ∧ z.2.1 = r) → ¬ ((33 ≤ z.1 ∧ z.1 < 38) ∧ -(40 * r + 40) ≤ z.2.1 ∧ z.2.1 ≤ -1 - 40 * r) → Gk z = G z) ∧ rul Gk r H W (uB σ r) ∧ lst Gk (N + k) (gpM σ r m k.toNat) (fun i => some (rO (rid n (σ.1 9) N k i))) ∧ (∀ i, 0 ≤ i → i < gpM σ r m k.toNat → row Gk (rid n (σ.1 9) N k i) ((gpN σ r P k.toNat).1 i) ((gpN σ r P k.toNat).2.1 i) ((gpN σ r P k.toNat).2.2 i)) ∧ (∀ (t : Nat) (i j : Int), 14 ≤ t → t < 18 → k < j → j ≤ n → 0 ≤ i → i < gpM σ r m j.toNat → Gk (t, rid n (σ.1 9) N j i, 0) = none) ∧ ∀ (t : Nat) (z j : Int), t = 30 ∨ t = 31 → N + k < z → z < N + 400 → Gk (t, z, j) = none
section
variable {d : Nat} {K : Option XV → GH → Prop} {G : GH} {bc bs : Nat} {σ : MS} {w : RW}
theorem c_X0_grow_n {p r n many N m u ma li : Int} {rg : Option Rl} {P : GP} {H W : Nat} {v8 : Option XV} (hof : off G u ma li rg) (hkin : Rkin σ G) (hK : kok σ) (hQ : qok σ) (hr : 0 ≤ r ∧ r < σ.1 29) (eH : (H : Int) = σ.2 26 r) (eW : (W : Int) = σ.2 27 r) (hn : 0 ≤ n ∧ n ≤ 5) (hN : 0 ≤ N) (hmd : 0 ≤ σ.1 9) (hm0 : 0 ≤ m) (hP : gpok σ m P) (hok : ∀ s : Nat, (s : Int) < n → okS σ r (gpM σ r m s) (gpN σ r P s)) (hMn : gpM σ r m n.toNat ≤ 60) {G0 : GH} (s0 : gsS σ r P m N n H W 0 G G0)
    (kk : ∀ (Gn : GH) (v8 : Option XV), gsS σ r P m N n H W n G Gn → tvW mX0_grow (d + 8) K 189 [some (xR oR), some (xI p), some (xI r), some (xI n), some (xR (pO p)), some (xR (uO r)), some (xI many), (some (xR (lO (N + n)))), v8] [] Gn 3 104) : tvW mX0_grow (d + 8) K 164 [some (xR oR), some (xI p), some (xI r), some (xI n), some (xR (pO p)), some (xR (uO r)), some (xI many), (some (xR (lO N))), v8] [] G0 4413 68219 := by
  have hq := hQ.2 r hr.1 hr.2
  have gM : ∀ s : Nat, (s : Int) ≤ n → 0 ≤ gpM σ r m s ∧ gpM σ r m s ≤ 60 := by
    intro s hs
    have z := gpM_mono (σ := σ) (r := r) (M := m) (by omega) hm0 s (n.toNat - s)
    rw [show s + (n.toNat - s) = n.toNat by omega] at z
    omega
  refine w_iconst (pc' := 165) dX0_grow_164 rfl (by decide) ?_
  refine w_ist8 (pc' := 167) dX0_grow_165 rfl rfl ?_
  -- at 167: .iload 8
  refine w_L (L' := [some (xR oR), some (xI p), some (xI r), some (xI n), some (xR (pO p)), some (xR (uO r)), some (xI many), (some (xR (lO (N + 0)))), (some (xI 0))]) (by rw [Int.add_zero]) ?_
  refine up (T := fun k => 0 ≤ k → ∀ (Gk : GH) (mc ms : Nat), gsS σ r P m N n H W k G Gk → 3 + 882 * (n - k) ≤ mc → 104 + 13623 * (n - k) ≤ ms → tvW mX0_grow (d + 8) K 167 [some (xR oR), some (xI p), some (xI r), some (xI n), some (xR (pO p)), some (xR (uO r)), some (xI many), (some (xR (lO (N + k)))), (some (xI k))] [] Gk mc ms) n hn.1 ?_ ?_ (Int.le_refl _) G0 4413 68219 s0 (by omega) (by omega)
  · intro _ Gk mc ms s hmc hms
    refine w_less (bc' := 3) (bs' := 104) (by omega) (by omega) ?_
    refine w_iload (pc' := 169) dX0_grow_167 rfl rfl ?_
    refine w_iload_n (pc' := 170) dX0_grow_169 rfl rfl ?_
    -- at 170: .if_icmp .ge 19
    refine w_icmp_ge (pc' := 173) (tgt := 189) dX0_grow_170 rfl rfl (fun h_ => ?_) (fun h_ => False.elim (by first | omega | (simp (decide := true) only [au_1, nu_2, au_lt, nu_lt, aw_e, nw_e, au_s, au_n, nu_s, nu_n, au_au, nu_nu, au_nu] at h_; omega)))
    exact kk Gk _ s
  · intro k k0 k1 ih _ Gk mc ms s hmc hms
    obtain ⟨s1, s2, s3, s4, s5, s6⟩ := s
    have hof1 := (s1 oR (by simp only []; omega) (by simp only []; omega) (by simp only []; omega) (by simp only []; omega)).trans hof
    have hof2 := hof1
    unfold off at hof2
    have kin1 : Rkin σ Gk := Rkin_fr2 (fun z hz => s1 z (by omega) (by omega) (by omega) (by omega)) hkin
    have hgk := ly_gst hK hQ hr hP k.toNat (fun j hj => hok j (by omega))
    have hok1 := hok k.toNat (by omega)
    have gk := gM k.toNat (by omega)
    have gk1 := gM (k.toNat + 1) (by omega)
    have em : gpM σ r m (k.toNat + 1) = gpM σ r m k.toNat * H := by rw [eH]; rfl
    have ek : (k + 1).toNat = k.toNat + 1 := by omega
    obtain ⟨mc2, rfl⟩ : ∃ m', mc = m' + 882 := ⟨mc - 882, by omega⟩
    obtain ⟨ms2, rfl⟩ : ∃ m', ms = m' + 13623 := ⟨ms - 13623, by omega⟩
    refine w_iload (pc' := 169) dX0_grow_167 rfl rfl ?_
    refine w_iload_n (pc' := 170) dX0_grow_169 rfl rfl ?_
    -- at 170: .if_icmp .ge 19
    refine w_icmp_ge (pc' := 173) (tgt := 189) dX0_grow_170 rfl rfl (fun h_ => False.elim (by first | omega | (simp (decide := true) only [au_1, nu_2, au_lt, nu_lt, aw_e, nw_e, au_s, au_n, nu_s, nu_n, au_au, nu_nu, au_nu] at h_; omega))) (fun h_ => ?_)
    refine w_aload_n (pc' := 174) dX0_grow_173 rfl rfl ?_
    refine w_aload (pc' := 176) dX0_grow_174 rfl rfl ?_
    refine w_aload (pc' := 178) dX0_grow_176 rfl rfl ?_
    -- at 178: .invokevirtual 270
    refine w_callV2 (pc' := 181) (mc := 882) (ms := 13623) dX0_grow_178 rfl tX0_grown q669 rfl rfl qs14 q667 hof2 rfl (Nat.le_of_ble_eq_true rfl) (Nat.le_of_ble_eq_true rfl) ?_
    refine c_X0_grown (a' := N + (k + 1)) (ρ' := rid n (σ.1 9) N (k + 1)) s3 s4 hgk.1 hok1 s2 eH eW hr hK hQ kin1 hof1 (by omega) (by omega) (s6 30 _ _ (Or.inl rfl) (by omega) (by omega)) (fun j => s6 31 _ _ (Or.inr rfl) (by omega) (by omega)) (fun t i t0 t1 i0 i1 => s5 t i (k + 1) t0 t1 (by omega) (by omega) i0 (by rw [ek, em]; exact i1)) (fun i j i0 i1 j0 j1 e => by unfold rid at e; split at e <;> omega) (fun i j i0 i1 j0 j1 => ?_) (fun G2 f2 u2 l2 r2 => w_p1 ?_)
    · unfold rid
      rw [if_neg (show ¬ k = n by omega)]
      split <;> omega
    · have hid : ∀ i, 0 ≤ i → i < gpM σ r m k.toNat * H → (σ.1 9 ≤ rid n (σ.1 9) N (k + 1) i ∧ rid n (σ.1 9) N (k + 1) i < σ.1 9 + gpM σ r m n.toNat) ∨ -(N + 400) ≤ rid n (σ.1 9) N (k + 1) i ∧ rid n (σ.1 9) N (k + 1) i < -N := by
        intro i i0 i1
        unfold rid
        split
        · have e : n.toNat = k.toNat + 1 := by omega
          rw [e, em]
          omega
        · omega
      refine w_ast7 (pc' := 183) dX0_grow_181 rfl rfl ?_
      refine w_inc8 (pc' := 186) dX0_grow_183 rfl rfl ⟨by first | omega | (simp (decide := true) only [au_1, nu_2, au_lt, nu_lt, aw_e, nw_e, au_s, au_n, nu_s, nu_n, au_au, nu_nu, au_nu]; omega), by first | omega | (simp (decide := true) only [au_1, nu_2, au_lt, nu_lt, aw_e, nw_e, au_s, au_n, nu_s, nu_n, au_au, nu_nu, au_nu]; omega)⟩ ?_
      refine w_goto (tgt := 167) dX0_grow_186 rfl ?_
      -- at 167: .iload 8
      refine ih (by omega) G2 mc2 ms2 ⟨fun z z1 z2 z3 z4 => ?_, u2, ?_, fun i i0 i1 => ?_, fun t i j t0 t1 j0 j1 i0 i1 => ?_, fun t z j t0 z0 z1 => ?_⟩ (by omega) (by omega)
      · rw [f2 z (fun y => ?_) (by omega) (fun y => z3 (by rw [y]; exact ⟨rfl, rfl⟩)) z4, s1 z z1 z2 z3 z4]
        obtain ⟨y1, i, i0, i1, e⟩ := y
        have := hid i i0 i1
        rw [← e] at this
        exact z1 ⟨y1, this⟩
      · rw [ek, em]
        exact l2
      · rw [ek, em] at i1
        rw [ek]
        exact r2 i i0 i1
      · have hg := gM j.toNat (by omega)
        refine (f2 _ (fun y => ?_) (by simp only []; omega) (rl_ne (by omega)) (by simp only []; omega)).trans (s5 t i j t0 t1 (by omega) j1 i0 i1)
        obtain ⟨-, i', i0', i1', e⟩ := y
        simp only [] at e
        unfold rid at e
        rw [if_neg (show ¬ k + 1 = n by omega)] at e
        split at e <;> omega
      · exact (f2 _ (fun y => by have := y.1; simp only [] at this; omega) (by simp only []; omega) (rl_ne (by omega)) (by simp only []; omega)).trans (s6 t z j t0 (by omega) z1)
/-- the end: the rows become a new pattern's -/
theorem c_X0_grow_e {p r n m : Int} {P : GP} {pl cl : Int → Int} {N b : Int} {rg : Option Rl} {H W : Nat} {v8 : Option XV} {Gn : GH} (hw : Rx σ (pl, cl, N, b, rg) G) (hK : kok σ) (hR : rok σ) (hP' : pok σ) (hQ : qok σ) (hf0 : 0 ≤ σ.1 40) (hp : σ.1 12 < 16) (hr : 0 ≤ r ∧ r < σ.1 29) (eH : (H : Int) = σ.2 26 r) (eW : (W : Int) = σ.2 27 r) (hn : 0 ≤ n ∧ n ≤ 5) (hm0 : 0 ≤ m) (hP : gpok σ (gpM σ r m n.toNat) (gpN σ r P n.toNat)) (hMn : 0 ≤ gpM σ r m n.toNat ∧ gpM σ r m n.toNat ≤ 60) (hmk : gpM σ r m n.toNat ≤ 6000 - σ.1 9) (s : gsS σ r P m N n H W n G Gn)
    (h : ∀ G', tfr G G' → (∀ f g h x y, Rel (sGrow σ (gpN σ r P n.toNat) (gpM σ r m n.toNat) f g h x y) G') → K (some (xI (σ.1 12))) G') : tvW mX0_grow (d + 8) K 189 [some (xR oR), some (xI p), some (xI r), some (xI n), some (xR (pO p)), some (xR (uO r)), some (xI (gpM σ r m n.toNat)), (some (xR (lO (N + n)))), v8] [] Gn 3 104 := by
  obtain ⟨hx1, hx2, hx3, hx4, hx5, hx6, hx7, hx8, hx9, hx10, hx11⟩ := Rx_un hw
  obtain ⟨s1, s2, s3, s4, s5, s6⟩ := s
  have hmd := hR.1
  have hN := hx11.1
  have hpp := hP'.1
  have hq := hQ.1
  have hk1 := hK.1
  have erid : ∀ i, rid n (σ.1 9) N n i = σ.1 9 + i := fun i => if_pos rfl
  generalize hQQ : gpN σ r P n.toNat = Q at *
  generalize hMM : gpM σ r m n.toNat = M at *
  have hof := (s1 oR (by simp only []; omega) (by simp only []; omega) (by simp only []; omega) (by simp only []; omega)).trans hx1
  unfold off at hof
  have hfp : Gn (pO (σ.1 12)) = none := (s1 _ (by simp only []; omega) (by simp only []; omega) (by simp only []; omega) (by simp only []; omega)).trans (fre_iff.mp hx10 _ (Or.inr (Or.inr (Or.inr (Or.inr (Or.inl ⟨rfl, Int.le_refl _⟩))))))
  have hfN : Gn (lO (N + 399)) = none := s6 30 _ _ (Or.inl rfl) (by omega) (by omega)
  have hfA : ∀ j, Gn (lA (N + 399) j) = none := fun j => s6 31 _ _ (Or.inr rfl) (by omega) (by omega)
  refine w_aload_n (pc' := 190) dX0_grow_189 rfl rfl ?_
  refine w_dup (pc' := 191) dX0_grow_190 rfl rfl ?_
  refine w_get 6 (pc' := 194) dX0_grow_191 rfl fX0_135_0 hof rfl ?_
  refine w_iload (pc' := 196) dX0_grow_194 rfl rfl ?_
  refine w_iadd (pc' := 197) dX0_grow_196 rfl ⟨by first | omega | (simp (decide := true) only [au_1, nu_2, au_lt, nu_lt, aw_e, nw_e, au_s, au_n, nu_s, nu_n, au_au, nu_nu, au_nu]; omega), by first | omega | (simp (decide := true) only [au_1, nu_2, au_lt, nu_lt, aw_e, nw_e, au_s, au_n, nu_s, nu_n, au_au, nu_nu, au_nu]; omega)⟩ ?_
  refine w_put 6 (pc' := 200) dX0_grow_197 rfl pX0_135_0 (by decide) hof (Nat.le_of_ble_eq_true rfl) trivial ?_
  -- at 200: .new 62
  refine w_upd (fun G1 a1 f1 => ?_)
  have hfp := (f1 _ (rl_ne (by omega))).trans hfp
  have hfN := (f1 _ (rl_ne (by omega))).trans hfN
  have hfA : ∀ j, G1 (lA (N + 399) j) = none := fun j => (f1 _ (rl_ne (by omega))).trans (hfA j)
  refine w_new (N := 1) (pO (σ.1 12)) (pc' := 203) dX0_grow_200 rfl nX0_62 (by assumption) (by first | assumption | simp) ?_
  -- at 203: .dup
  refine w_upd (fun G2 a2 f2 => ?_)
  have hfN := (f2 _ (rl_ne (by omega))).trans hfN
  have hfA : ∀ j, G2 (lA (N + 399) j) = none := fun j => (f2 _ (rl_ne (by omega))).trans (hfA j)
  refine w_dup (pc' := 204) dX0_grow_203 rfl rfl ?_
  -- at 204: .invokespecial 121
  refine w_callI0 (pc' := 207) (mc := 1) (ms := 3) dX0_grow_204 rfl tX4_init rfl rfl q358 (Or.inr ⟨_, q357⟩) rfl (Nat.le_of_ble_eq_true rfl) (Nat.le_of_ble_eq_true rfl) ?_
  refine c_X4_init (f := fun _ => none) a2 (by decide : (18 : Nat) < 30) hfN hfA (fun G3 f3 o3 l3 => w_p0 ?_)
  refine w_ast8 (pc' := 209) dX0_grow_207 rfl rfl ?_
  refine w_aload (pc' := 211) dX0_grow_209 rfl rfl ?_
  refine w_aload (pc' := 213) dX0_grow_211 rfl rfl ?_
  refine w_put 0 (pc' := 216) dX0_grow_213 rfl pX0_140_3 (by decide) o3 (Nat.le_of_ble_eq_true rfl) trivial ?_
  -- at 216: .aload_n 0
  refine w_upd (fun G4 a4 f4 => ?_)
  have ch4 : ∀ q : Rl, q ≠ oR → q ≠ pO (σ.1 12) → ¬ ((q.1 = 30 ∨ q.1 = 31) ∧ q.2.1 = N + 399) → G4 q = Gn q := fun q q1 q2 q3 => by rw [f4 q q2, f3 q q2 q3, f2 q q2, f1 q q1]
  have hof4 : off G4 (σ.1 16) (σ.1 9 + M) (σ.1 41) rg := by
    rw [off, f4 _ (rl_ne (by omega)), f3 _ (rl_ne (by omega)) (by simp only []; omega), f2 _ (rl_ne (by omega)), a1]
    rfl
  have hof5 := hof4
  unfold off at hof5
  have lp : lst G4 (-2) (σ.1 12) (fun p => some (pO p)) := lst_of_fr (fun q q1 q2 => (ch4 q (fun z => by rw [z] at q1; simp only [] at q1; omega) (fun z => by rw [z] at q1; simp only [] at q1; omega) (by omega)).trans (s1 q (by omega) (by omega) (by omega) (by omega))) hx4.1
  have lelp : lel G4 (σ.1 12) (fun p => some (pO p)) 3 := fun i i0 i1 => ⟨_, _, rfl, Or.inl (by decide : (18 : Nat) < 30), ((ch4 _ (rl_ne (by omega)) (rl_ne (by omega)) (by simp only []; omega)).trans (s1 _ (by simp only []; omega) (by simp only []; omega) (by simp only []; omega) (by simp only []; omega))).trans (hx4.2 i i0 i1).1⟩
  obtain ⟨lf4, hl4⟩ := lst_o lp
  refine w_aload_n (pc' := 217) dX0_grow_216 rfl rfl ?_
  refine w_get 1 (pc' := 220) dX0_grow_217 rfl fX0_16_0 hof5 rfl ?_
  refine w_aload (pc' := 222) dX0_grow_220 rfl rfl ?_
  -- at 222: .invokevirtual 98
  refine w_callV1 (pc' := 225) (mc := 1) (ms := 100) dX0_grow_222 rfl tJ2_add q257 rfl rfl q258 q256 hl4 rfl (Nat.le_of_ble_eq_true rfl) (Nat.le_of_ble_eq_true rfl) ?_
  refine c_J2_add lp (by omega) ⟨_, rfl, Or.inr ⟨_, rfl, q1585⟩⟩ lelp a4 (Or.inl (by decide : (18 : Nat) < 30)) (fun G6 f6 l6 => w_p1 ?_)
  have l6 : lst G6 (-2) (σ.1 12 + 1) (fun k => some (pO k)) := lst_c (fun i _ _ => by unfold rset; split <;> simp [*]) l6
  have hof6 := (f6 oR (by simp only []; omega)).trans hof4
  have hof7 := hof6
  unfold off at hof7
  obtain ⟨lf6, hl6⟩ := lst_o l6
  refine w_pop (pc' := 226) dX0_grow_225 rfl rfl ?_
  refine w_aload_n (pc' := 227) dX0_grow_226 rfl rfl ?_
  refine w_get 1 (pc' := 230) dX0_grow_227 rfl fX0_16_0 hof7 rfl ?_
  -- at 230: .invokevirtual 54
  refine w_callV0 (pc' := 233) (mc := 0) (ms := 0) dX0_grow_230 rfl tJ2_size q207 rfl rfl q208 q206 hl6 rfl (Nat.le_of_ble_eq_true rfl) (Nat.le_of_ble_eq_true rfl) ?_
  refine c_J2_size l6 ?_
  refine w_p1 ?_
  refine w_iconst (pc' := 234) dX0_grow_233 rfl (by decide) ?_
  refine w_isub (pc' := 235) dX0_grow_234 rfl ⟨by first | omega | (simp (decide := true) only [au_1, nu_2, au_lt, nu_lt, aw_e, nw_e, au_s, au_n, nu_s, nu_n, au_au, nu_nu, au_nu]; omega), by first | omega | (simp (decide := true) only [au_1, nu_2, au_lt, nu_lt, aw_e, nw_e, au_s, au_n, nu_s, nu_n, au_au, nu_nu, au_nu]; omega)⟩ ?_
  -- at 235: .ireturn
  refine w_ireturn dX0_grow_235 rfl ?_
  rw [show σ.1 12 + 1 - 1 = σ.1 12 by omega]
  have ch6 : ∀ q : Rl, q ≠ oR → q ≠ pO (σ.1 12) → ¬ ((q.1 = 30 ∨ q.1 = 31) ∧ (q.2.1 = N + 399 ∨ q.2.1 = -2)) → G6 q = Gn q := fun q q1 q2 q3 => (f6 q (by omega)).trans (ch4 q q1 q2 (by omega))
  have ch6' : ∀ q : Rl, q.1 ≠ 2 → q.1 ≠ 18 → ¬ ((q.1 = 30 ∨ q.1 = 31) ∧ (q.2.1 = N + 399 ∨ q.2.1 = -2)) → G6 q = Gn q := fun q q1 q2 q3 => ch6 q (fun z => q1 (by rw [z])) (fun z => q2 (by rw [z])) q3
  refine h G6 (fun q hq => (ch6' q (by omega) (by omega) (by omega)).trans (s1 q (by omega) (by omega) (by omega) (by omega))) (fun f g h x y => ⟨_, Rx_grow (N' := N + 400) (M := N + n) (r := r) (H := H) (W := W) hw hQ hr hmd.1 hpp.1 hf0 hk1.1 ⟨by omega, by omega⟩ eH eW ?_ ?_ rfl ?_ ?_ ?_ hof6 ?_ ?_ l6 ((f6 _ (by simp only []; omega)).trans a4) ?_⟩)
  · intro k k1 k2 k3 k4
    show (if k = 19 then _ else if k = 18 then _ else if k = 12 then _ else if k = 9 then _ else _) = _
    rw [if_neg k4, if_neg k3, if_neg k2, if_neg k1]
    rfl
  · intro k hk
    show (if k = 32 then _ else if k = 31 then _ else if k = 30 then _ else if k = 11 then _ else if k = 10 then _ else if k = 8 then _ else if k = 7 then _ else if k = 6 then _ else _) = _
    rw [if_neg (by omega), if_neg (by omega), if_neg (by omega), if_neg (by omega), if_neg (by omega), if_neg (by omega), if_neg (by omega), if_neg (by omega)]
  · show σ.1 9 ≤ σ.1 9 + M
    omega
  · intro p p0 p1
    have hMp := (hP'.2 p p0 p1).1
    refine ⟨if_neg (by omega), fun i i0 i1 => ?_⟩
    show rfill (σ.2 10) (60 * σ.1 12) M (fun z => σ.1 9 + (z - 60 * σ.1 12)) (60 * p + i) = σ.2 10 (60 * p + i)
    unfold rfill
    rw [if_neg (by omega)]
  · intro q q1 q2 q3 q4 q5 q6
    exact (ch6 q q1 q2 (by omega)).trans (s1 q q3 (by omega) q5 q6)
  · refine Rrow_grow hR hx3 hMn.1 hP (fun q hq q0 q1 => (ch6' q (by omega) (by omega) (by omega)).trans (s1 q (by omega) (by omega) (by omega) (by omega))) (fun i i0 i1 => ?_)
    have z := s4 i i0 i1
    rw [erid] at z
    exact row_e (fun t t0 t1 => ch6' _ (by simp only []; omega) (by simp only []; omega) (by simp only []; omega)) z
  · exact rul_fr (ch6' _ (by simp only []; omega) (by simp only []; omega) (by simp only []; omega)) (ch6' _ (by simp only []; omega) (by simp only []; omega) (by simp only []; omega)) (fun k k0 k1 z z1 z2 => ch6' z (by omega) (by omega) (by omega)) s2
  · show lst G6 (N + n) (iset (σ.2 11) (σ.1 12) M (σ.1 12)) _
    rw [show iset (σ.2 11) (σ.1 12) M (σ.1 12) = M from if_pos rfl]
    refine lst_c (fun i i0 i1 => ?_) (lst_of_fr (fun q q1 q2 => ch6' q (by omega) (by omega) (by omega)) s3)
    rw [erid]
    show _ = some (rO (rfill (σ.2 10) (60 * σ.1 12) M (fun z => σ.1 9 + (z - 60 * σ.1 12)) (60 * σ.1 12 + i)))
    unfold rfill
    rw [if_pos (by omega)]
    simp only []
    rw [show σ.1 9 + (60 * σ.1 12 + i - 60 * σ.1 12) = σ.1 9 + i by omega]
end
