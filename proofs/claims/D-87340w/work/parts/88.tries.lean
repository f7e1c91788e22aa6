set_option maxRecDepth 10000
section
variable {K : Option XV → GH → Prop} {G : GH} {bc bs : Nat} {σ : MS} {f : Int} {H W : Nat} {b l : Int → Int} {u ma : Int} {rg : Option Rl} {mo most byc le least c : Int} {A : SA}
/-- what next does, o places from the end -/
def nxC (σ : MS) (f : Int) (H W : Nat) (u ma : Int) (rg : Option Rl) (mo most byc le least : Int) (o D : Nat) : Prop := ∀ (K : Option XV → GH → Prop) (G : GH) (bc bs : Nat) (b l : Int → Int) (c : Int) (A : SA), ne_ σ f b = o → bok σ f b → lok σ l → (0 ≤ c ∧ c ≤ 1000 * (64 - o)) → (∀ k, 0 ≤ k → k < σ.1 5 → 0 < l k → byc ≠ 0 → le = least) → accJ most byc A → ¬ endA most A → (o = 0 → byc ≠ 0 → 0 < (A).2.2.1 → c < (A).2.2.2.1) → fsS σ f H W u ma rg mo byc le b l c o A G → (∀ G', ffo f G G' → fsS σ f H W u ma rg mo byc le b l c o (srch σ f most byc least o b l c A) G' → accJ most byc (srch σ f most byc least o b l c A) → K none G') → tvW mX10_next (D + 6) K 0 [some (xR (fO f)), none, none, none, none, none, none] [] G bc bs
theorem c_X10_tries {y x k m : Int} {o D : Nat} (IH : nxC σ f H W u ma rg mo most byc le least o D) (hS : fsS σ f H W u ma rg mo byc le b l c (o + 1) A G) (hK : kok σ) (hF : fo1 σ) (hf : 0 ≤ f ∧ f < σ.1 40) (eH : (H : Int) = σ.2 35 f) (eW : (W : Int) = σ.2 36 f) (hb : bok σ f b) (hl : lok σ l) (hc : 0 ≤ c ∧ c ≤ 1000 * (64 - (o + 1))) (ho : (o : Int) + 1 ≤ 64) (hle : ∀ k, 0 ≤ k → k < σ.1 5 → 0 < l k → byc ≠ 0 → le = least) (hll : 0 ≤ least ∧ least ≤ 1000) (hby : byc = 0 ∨ byc = 1) (hA : accJ most byc A) (hE : ¬ endA most A) (hne : ne_ σ f b = o + 1) (hop : opB σ f (8 * y + x)) (hb0 : b (8 * y + x) = 0) (hy : 0 ≤ y ∧ y < H) (hx : 0 ≤ x ∧ x < W) (hk : 0 ≤ k ∧ k < σ.1 5) (hm : 0 ≤ m ∧ m < 8) (hlk : 0 < l k)
    (h : ∀ A', A' = (if byc ≠ 0 ∧ 0 ≤ (A).2.2.2.1 ∧ (A).2.2.2.1 ≤ c + σ.2 2 k + least * o then A else if (A).1 = 30000 ∨ (A).2.1 = 600000 then ((A).1, (A).2.1, (A).2.2.1, (A).2.2.2.1, 1, (A).2.2.2.2.2) else srch σ f most byc least o (iset b (8 * y + x) (8 * k + m + 1)) (iset l k (l k - 1)) (c + σ.2 2 k) ((A).1 + 1, (A).2.1 + 1, (A).2.2.1, (A).2.2.2.1, (A).2.2.2.2.1, (A).2.2.2.2.2)) → ∀ G', ffo f G G' → fsS σ f H W u ma rg mo byc le b l c (o + 1) A' G' → accJ most byc A' → K none G') : tvW mX10_tries (D + 7) K 0 [some (xR (fO f)), some (xI y), some (xI x), some (xI k), some (xI m), none] [] G bc bs := by
  have hk1 := hK.1
  have hd := hF.2 f hf.1 hf.2
  have ele := hle k hk.1 hk.2 hlk
  obtain ⟨hof, hkin, hO, hbd, hly, hxt, hlf⟩ := id hS
  have hof0 := hof
  unfold off at hof0
  obtain ⟨a1, a2, a3, a4, a5, a6⟩ := id hA
  obtain ⟨lf, hlO⟩ := lst_o hkin.1
  have tl := hkin.2 k hk.1 hk.2
  obtain ⟨-, -, tC, -⟩ := hK.2 k hk.1 hk.2
  have eo : (A).2.2.2.2.1 = 0 := a5.resolve_right (fun z => hE (Or.inl z))
  have hlo : 0 ≤ least * (o : Int) ∧ least * (o : Int) ≤ 1000 * 64 := mlr hll.1 hll.2 (by omega) (by omega)
  have go : ¬ (byc ≠ 0 ∧ 0 ≤ (A).2.2.2.1 ∧ (A).2.2.2.1 ≤ c + σ.2 2 k + least * o) → tvW mX10_tries (D + 7) K 70 [some (xR (fO f)), some (xI y), some (xI x), some (xI k), some (xI m), some (xI (σ.2 2 k))] [] G bc bs := by
    intro hnp
    rw [if_neg hnp] at h
    have out : ((A).1 = 30000 ∨ (A).2.1 = 600000) → tvW mX10_tries (D + 7) K 92 [some (xR (fO f)), some (xI y), some (xI x), some (xI k), some (xI m), some (xI (σ.2 2 k))] [] G bc bs := by
      intro q
      rw [if_pos q] at h
      refine w_aload_n (pc' := 93) dX10_tries_92 rfl rfl ?_
      refine w_iconst (pc' := 94) dX10_tries_93 rfl (by decide) ?_
      refine w_put 18 (pc' := 97) dX10_tries_94 rfl pX10_104_8 (by decide) hO (Nat.le_of_ble_eq_true rfl) (Or.inr rfl) ?_
      -- at 97: .return_
      refine w_upd (fun G1 b1' f1 => ?_)
      refine w_return dX10_tries_97 rfl ?_
      have fr : ffo f G G1 := ffo_r (ffr_s (by omega) f1)
      refine h _ rfl G1 fr ⟨(f1 oR (rl_ne (by omega))).trans hof, Rkin_o fr hkin, b1', fbd_fr (f1 _ (rl_ne (by omega))) (fun i => f1 _ (rl_ne (by omega))) hbd, fbd_fr (f1 _ (rl_ne (by omega))) (fun i => f1 _ (rl_ne (by omega))) hly, fxt_fr rfl rfl (fun n _ => f1 _ (rl_ne (by omega))) (fun n i _ _ => f1 _ (rl_ne (by omega))) (f1 _ (rl_ne (by omega))) hxt, ?_⟩ ⟨a1, a2, a3, a4, Or.inr rfl, a6⟩
      obtain ⟨g, g1, g2⟩ := hlf
      exact ⟨g, (f1 _ (rl_ne (by omega))).trans g1, g2⟩
    have inn : ¬ ((A).1 = 30000 ∨ (A).2.1 = 600000) → tvW mX10_tries (D + 7) K 98 [some (xR (fO f)), some (xI y), some (xI x), some (xI k), some (xI m), some (xI (σ.2 2 k))] [] G bc bs := by
      intro q
      rw [if_neg q] at h
      obtain ⟨g, g1, g2⟩ := hlf
      obtain ⟨gl, gl1, -⟩ := hly.2 y hy.1 hy.2
      have hly6 := hly.1
      have hgk := g2 k hk.1 hk.2
      have hlkr := hl k hk.1 hk.2
      refine w_aload_n (pc' := 99) dX10_tries_98 rfl rfl ?_
      refine w_dup (pc' := 100) dX10_tries_99 rfl rfl ?_
      refine w_get 10 (pc' := 103) dX10_tries_100 rfl fX10_89_8 hO rfl ?_
      refine w_iconst (pc' := 104) dX10_tries_103 rfl (by decide) ?_
      refine w_iadd (pc' := 105) dX10_tries_104 rfl ⟨by first | omega | (simp (decide := true) only [au_1, nu_2, au_lt, nu_lt, aw_e, nw_e, au_s, au_n, nu_s, nu_n, au_au, nu_nu, au_nu]; omega), by first | omega | (simp (decide := true) only [au_1, nu_2, au_lt, nu_lt, aw_e, nw_e, au_s, au_n, nu_s, nu_n, au_au, nu_nu, au_nu]; omega)⟩ ?_
      refine w_put 10 (pc' := 108) dX10_tries_105 rfl pX10_89_8 (by decide) hO (Nat.le_of_ble_eq_true rfl) trivial ?_
      -- at 108: .aload_n 0
      refine w_upd (fun G1 b1' f1 => ?_)
      have hof0 := (f1 _ (rl_ne (by omega))).trans hof0
      have hly6 := (f1 _ (rl_ne (by omega))).trans hly6
      have gl1 := (f1 _ (rl_ne (by omega))).trans gl1
      have g1 := (f1 _ (rl_ne (by omega))).trans g1
      refine w_aload_n (pc' := 109) dX10_tries_108 rfl rfl ?_
      refine w_get 19 (pc' := 112) dX10_tries_109 rfl fX10_3_8 b1' rfl ?_
      refine w_dup (pc' := 113) dX10_tries_112 rfl rfl ?_
      refine w_get 7 (pc' := 116) dX10_tries_113 rfl fX10_157_0 hof0 rfl ?_
      refine w_iconst (pc' := 117) dX10_tries_116 rfl (by decide) ?_
      refine w_iadd (pc' := 118) dX10_tries_117 rfl ⟨by first | omega | (simp (decide := true) only [au_1, nu_2, au_lt, nu_lt, aw_e, nw_e, au_s, au_n, nu_s, nu_n, au_au, nu_nu, au_nu]; omega), by first | omega | (simp (decide := true) only [au_1, nu_2, au_lt, nu_lt, aw_e, nw_e, au_s, au_n, nu_s, nu_n, au_au, nu_nu, au_nu]; omega)⟩ ?_
      refine w_put 7 (pc' := 121) dX10_tries_118 rfl pX10_157_0 (by decide) hof0 (Nat.le_of_ble_eq_true rfl) trivial ?_
      -- at 121: .aload_n 0
      refine w_upd (fun G2 b2' f2 => ?_)
      have b1' := (f2 _ (rl_ne (by omega))).trans b1'
      have hly6 := (f2 _ (rl_ne (by omega))).trans hly6
      have gl1 := (f2 _ (rl_ne (by omega))).trans gl1
      have g1 := (f2 _ (rl_ne (by omega))).trans g1
      refine w_aload_n (pc' := 122) dX10_tries_121 rfl rfl ?_
      refine w_get 5 (pc' := 125) dX10_tries_122 rfl fX10_34_8 b1' rfl ?_
      refine w_iload_n (pc' := 126) dX10_tries_125 rfl rfl ?_
      refine w_aaldM (pc' := 127) dX10_tries_126 rfl hly6 hy.1 hy.2 ?_
      refine w_iload_n (pc' := 128) dX10_tries_127 rfl rfl ?_
      refine w_bipush (pc' := 130) dX10_tries_128 rfl (by decide +kernel) (by decide) ?_
      refine w_iload_n (pc' := 131) dX10_tries_130 rfl rfl ?_
      refine w_imul (pc' := 132) dX10_tries_131 rfl ⟨by first | omega | (simp (decide := true) only [au_1, nu_2, au_lt, nu_lt, aw_e, nw_e, au_s, au_n, nu_s, nu_n, au_au, nu_nu, au_nu]; omega), by first | omega | (simp (decide := true) only [au_1, nu_2, au_lt, nu_lt, aw_e, nw_e, au_s, au_n, nu_s, nu_n, au_au, nu_nu, au_nu]; omega)⟩ ?_
      refine w_iload (pc' := 134) dX10_tries_132 rfl rfl ?_
      refine w_iadd (pc' := 135) dX10_tries_134 rfl ⟨by first | omega | (simp (decide := true) only [au_1, nu_2, au_lt, nu_lt, aw_e, nw_e, au_s, au_n, nu_s, nu_n, au_au, nu_nu, au_nu]; omega), by first | omega | (simp (decide := true) only [au_1, nu_2, au_lt, nu_lt, aw_e, nw_e, au_s, au_n, nu_s, nu_n, au_au, nu_nu, au_nu]; omega)⟩ ?_
      refine w_iast (pc' := 136) dX10_tries_135 rfl gl1 hx.1 hx.2  ?_
      -- at 136: .aload_n 0
      refine w_upd (fun G3 b3' f3 => ?_)
      have b1' := (f3 _ (rl_ne (by omega))).trans b1'
      have b2' := (f3 _ (rl_ne (by omega))).trans b2'
      have g1 := (f3 _ (rl_ne (by omega))).trans g1
      have b3s := b3'
      refine w_aload_n (pc' := 137) dX10_tries_136 rfl rfl ?_
      refine w_get 4 (pc' := 140) dX10_tries_137 rfl fX10_19_8 b1' rfl ?_
      refine w_iload_n (pc' := 141) dX10_tries_140 rfl rfl ?_
      refine w_dup2 (pc' := 142) dX10_tries_141 rfl rfl rfl ?_
      refine w_iald (pc' := 143) dX10_tries_142 rfl g1 hk.1 (by omega) ?_
      -- at 143: .iconst 1
      rw [hgk]
      refine w_iconst (pc' := 144) dX10_tries_143 rfl (by decide) ?_
      refine w_isub (pc' := 145) dX10_tries_144 rfl ⟨by first | omega | (simp (decide := true) only [au_1, nu_2, au_lt, nu_lt, aw_e, nw_e, au_s, au_n, nu_s, nu_n, au_au, nu_nu, au_nu]; omega), by first | omega | (simp (decide := true) only [au_1, nu_2, au_lt, nu_lt, aw_e, nw_e, au_s, au_n, nu_s, nu_n, au_au, nu_nu, au_nu]; omega)⟩ ?_
      refine w_iast (pc' := 146) dX10_tries_145 rfl g1 hk.1 (by omega)  ?_
      -- at 146: .aload_n 0
      refine w_upd (fun G4 b4' f4 => ?_)
      have b1' := (f4 _ (rl_ne (by omega))).trans b1'
      have b2' := (f4 _ (rl_ne (by omega))).trans b2'
      have b3' := (f4 _ (rl_ne (by omega))).trans b3'
      refine w_aload_n (pc' := 147) dX10_tries_146 rfl rfl ?_
      refine w_dup (pc' := 148) dX10_tries_147 rfl rfl ?_
      refine w_get 14 (pc' := 151) dX10_tries_148 rfl fX10_95_8 b1' rfl ?_
      refine w_iload (pc' := 153) dX10_tries_151 rfl rfl ?_
      refine w_iadd (pc' := 154) dX10_tries_153 rfl ⟨by first | omega | (simp (decide := true) only [au_1, nu_2, au_lt, nu_lt, aw_e, nw_e, au_s, au_n, nu_s, nu_n, au_au, nu_nu, au_nu]; omega), by first | omega | (simp (decide := true) only [au_1, nu_2, au_lt, nu_lt, aw_e, nw_e, au_s, au_n, nu_s, nu_n, au_au, nu_nu, au_nu]; omega)⟩ ?_
      refine w_put 14 (pc' := 157) dX10_tries_154 rfl pX10_95_8 (by decide) b1' (Nat.le_of_ble_eq_true rfl) trivial ?_
      -- at 157: .aload_n 0
      refine w_upd (fun G5 b5' f5 => ?_)
      have b2' := (f5 _ (rl_ne (by omega))).trans b2'
      have b3' := (f5 _ (rl_ne (by omega))).trans b3'
      have b4' := (f5 _ (rl_ne (by omega))).trans b4'
      refine w_aload_n (pc' := 158) dX10_tries_157 rfl rfl ?_
      refine w_dup (pc' := 159) dX10_tries_158 rfl rfl ?_
      refine w_get 16 (pc' := 162) dX10_tries_159 rfl fX10_110_8 b5' rfl ?_
      refine w_iconst (pc' := 163) dX10_tries_162 rfl (by decide) ?_
      refine w_isub (pc' := 164) dX10_tries_163 rfl ⟨by first | omega | (simp (decide := true) only [au_1, nu_2, au_lt, nu_lt, aw_e, nw_e, au_s, au_n, nu_s, nu_n, au_au, nu_nu, au_nu]; omega), by first | omega | (simp (decide := true) only [au_1, nu_2, au_lt, nu_lt, aw_e, nw_e, au_s, au_n, nu_s, nu_n, au_au, nu_nu, au_nu]; omega)⟩ ?_
      refine w_put 16 (pc' := 167) dX10_tries_164 rfl pX10_110_8 (by decide) b5' (Nat.le_of_ble_eq_true rfl) trivial ?_
      -- at 167: .aload_n 0
      refine w_upd (fun G6 b6' f6 => ?_)
      have b2' := (f6 _ (rl_ne (by omega))).trans b2'
      have b3' := (f6 _ (rl_ne (by omega))).trans b3'
      have b4' := (f6 _ (rl_ne (by omega))).trans b4'
      have ch6 : ∀ q : Rl, q ≠ fO f → q ≠ oR → q ≠ (27, 8 * f + 1, y) → q ≠ (25, f, 1) → G6 q = G q := fun q q1 q2 q3 q4 => by rw [f6 q q1, f5 q q1, f4 q q4, f3 q q3, f2 q q2, f1 q q1]
      have fr6 : ffo f G G6 := fun q q1 q2 q3 => ch6 q (fun z => q2 (by rw [z]; exact ⟨by simp only []; omega, rfl⟩)) q1 (fun z => q3 (by rw [z]; exact ⟨rfl, by simp only []; omega, by simp only []; omega⟩)) (fun z => q2 (by rw [z]; exact ⟨by simp only []; omega, rfl⟩))
      have hA1 : accJ most byc ((A).1 + 1, (A).2.1 + 1, (A).2.2.1, (A).2.2.2.1, (A).2.2.2.2.1, (A).2.2.2.2.2) := ⟨⟨by show 0 ≤ (A).1 + 1; omega, by show (A).1 + 1 ≤ 30000; omega⟩, ⟨by show 0 ≤ (A).2.1 + 1; omega, by show (A).2.1 + 1 ≤ 600000; omega⟩, a3, a4, a5, a6⟩
      have hpl : 0 ≤ 8 * y + x ∧ 8 * y + x < 64 := by omega
      have lyset : ∀ (v : Int) (b' : Int → Int) (i j : Int), 0 ≤ i → i < H → 0 ≤ j → j < W → lyB σ f (iset b' (8 * y + x) v) i j = if i = y ∧ j = x then v else lyB σ f b' i j := fun v b' i j i0 i1 j0 j1 => lyB_set hop (by omega) (by omega) (by omega) (by omega)
      have hly3 : fbd G3 f 1 10 0 H W (fun i j => lyB σ f (iset b (8 * y + x) (8 * k + m + 1)) i j - 1) := by
        have z := fbd_s (fbd_fr (G' := G2) ((f2 _ (rl_ne (by omega))).trans (f1 _ (rl_ne (by omega)))) (fun i => (f2 _ (rl_ne (by omega))).trans (f1 _ (rl_ne (by omega)))) hly) gl1 b3s f3
        refine fbd_c (fun i j i0 i1 j0 j1 => ?_) z
        unfold upd2
        rw [lyset _ _ i j i0 i1 j0 j1]
        by_cases e : i = y ∧ j = x
        · rw [if_pos e, if_pos e]
          omega
        · rw [if_neg e, if_neg e]
      have ch63 : ∀ q : Rl, q ≠ fO f → q ≠ (25, f, 1) → G6 q = G3 q := fun q q1 q2 => by rw [f6 q q1, f5 q q1, f4 q q2]
      have s6 : fsS σ f H W u ma rg mo byc le (iset b (8 * y + x) (8 * k + m + 1)) (iset l k (l k - 1)) (c + σ.2 2 k) o ((A).1 + 1, (A).2.1 + 1, (A).2.2.1, (A).2.2.2.1, (A).2.2.2.2.1, (A).2.2.2.2.2) G6 := by
        refine ⟨?_, Rkin_o fr6 hkin, ?_, fbd_fr (ch6 _ (rl_ne (by omega)) (rl_ne (by omega)) (rl_ne (by omega)) (rl_ne (by omega))) (fun i => ch6 _ (rl_ne (by omega)) (rl_ne (by omega)) (rl_ne (by omega)) (rl_ne (by omega))) hbd, fbd_fr (ch63 _ (rl_ne (by omega)) (rl_ne (by omega))) (fun i => ch63 _ (rl_ne (by omega)) (rl_ne (by omega))) hly3, fxt_fr rfl rfl (fun n hn => ch6 _ (rl_ne (by omega)) (rl_ne (by omega)) (rl_ne (by omega)) (rl_ne (by omega))) (fun n i hn _ => ch6 _ (rl_ne (by omega)) (rl_ne (by omega)) (rl_ne (by omega)) (rl_ne (by omega))) (ch6 _ (rl_ne (by omega)) (rl_ne (by omega)) (rl_ne (by omega)) (rl_ne (by omega))) hxt, ?_⟩
        · exact b2'
        · rw [show (o : Int) + 1 - 1 = o by omega] at b6'
          exact b6'
        · refine ⟨_, b4', fun j j0 j1 => ?_⟩
          unfold iset
          by_cases e : j = k
          · rw [if_pos e, if_pos e]
          · rw [if_neg e, if_neg e]
            exact g2 j j0 j1
      refine w_aload_n (pc' := 168) dX10_tries_167 rfl rfl ?_
      -- at 168: .invokevirtual 134
      refine w_callV0 (pc' := 171) (mc := 0) (ms := 0) dX10_tries_168 rfl tX10_next q997 rfl rfl qs32 q995 b6' rfl (Nat.le_of_ble_eq_true rfl) (Nat.le_of_ble_eq_true rfl) ?_
      refine IH _ G6 _ _ _ _ _ _ ?_ ?_ ?_ ⟨by omega, by omega⟩ ?_ hA1 hE ?_ s6 (fun G7 f7 s7 hA7 => w_p0 ?_)
      · rw [ne_set hpl.1 hpl.2 hop hb0 (by omega), hne]
        omega
      · intro z z0 z1 z2
        unfold iset
        split
        · omega
        · exact hb z z0 z1 z2
      · intro j j0 j1
        have := hl j j0 j1
        unfold iset
        split
        · rename_i e
          rw [e] at this
          omega
        · exact this
      · intro j j0 j1 j2
        unfold iset at j2
        split at j2
        · exact ele
        · exact hle j j0 j1 j2
      · intro o0 q1 q2
        have q2 : 0 < (A).2.2.1 := q2
        have z : ¬ ((A).2.2.2.1 ≤ c + σ.2 2 k + least * o) := fun y => hnp ⟨q1, by omega, y⟩
        rw [o0, show ((0 : Nat) : Int) = 0 from rfl, Int.mul_zero] at z
        show c + σ.2 2 k < (A).2.2.2.1
        omega
      generalize hA2 : srch σ f most byc least o (iset b (8 * y + x) (8 * k + m + 1)) (iset l k (l k - 1)) (c + σ.2 2 k) ((A).1 + 1, (A).2.1 + 1, (A).2.2.1, (A).2.2.2.1, (A).2.2.2.2.1, (A).2.2.2.2.2) = A2 at *
      obtain ⟨tof, tkin, tO, tbd, tly, txt, g', t1, t2⟩ := s7
      obtain ⟨gl', gl1', -⟩ := tly.2 y hy.1 hy.2
      have tly6 := tly.1
      have tgk := t2 k hk.1 hk.2
      rw [iset_s] at tgk
      refine w_aload_n (pc' := 172) dX10_tries_171 rfl rfl ?_
      refine w_dup (pc' := 173) dX10_tries_172 rfl rfl ?_
      refine w_get 16 (pc' := 176) dX10_tries_173 rfl fX10_110_8 tO rfl ?_
      refine w_iconst (pc' := 177) dX10_tries_176 rfl (by decide) ?_
      refine w_iadd (pc' := 178) dX10_tries_177 rfl ⟨by first | omega | (simp (decide := true) only [au_1, nu_2, au_lt, nu_lt, aw_e, nw_e, au_s, au_n, nu_s, nu_n, au_au, nu_nu, au_nu]; omega), by first | omega | (simp (decide := true) only [au_1, nu_2, au_lt, nu_lt, aw_e, nw_e, au_s, au_n, nu_s, nu_n, au_au, nu_nu, au_nu]; omega)⟩ ?_
      refine w_put 16 (pc' := 181) dX10_tries_178 rfl pX10_110_8 (by decide) tO (Nat.le_of_ble_eq_true rfl) trivial ?_
      -- at 181: .aload_n 0
      refine w_upd (fun G8 b8' f8 => ?_)
      have t1 := (f8 _ (rl_ne (by omega))).trans t1
      have tly6 := (f8 _ (rl_ne (by omega))).trans tly6
      have gl1' := (f8 _ (rl_ne (by omega))).trans gl1'
      refine w_aload_n (pc' := 182) dX10_tries_181 rfl rfl ?_
      refine w_dup (pc' := 183) dX10_tries_182 rfl rfl ?_
      refine w_get 14 (pc' := 186) dX10_tries_183 rfl fX10_95_8 b8' rfl ?_
      refine w_iload (pc' := 188) dX10_tries_186 rfl rfl ?_
      refine w_isub (pc' := 189) dX10_tries_188 rfl ⟨by first | omega | (simp (decide := true) only [au_1, nu_2, au_lt, nu_lt, aw_e, nw_e, au_s, au_n, nu_s, nu_n, au_au, nu_nu, au_nu]; omega), by first | omega | (simp (decide := true) only [au_1, nu_2, au_lt, nu_lt, aw_e, nw_e, au_s, au_n, nu_s, nu_n, au_au, nu_nu, au_nu]; omega)⟩ ?_
      refine w_put 14 (pc' := 192) dX10_tries_189 rfl pX10_95_8 (by decide) b8' (Nat.le_of_ble_eq_true rfl) trivial ?_
      -- at 192: .aload_n 0
      refine w_upd (fun G9 b9' f9 => ?_)
      have t1 := (f9 _ (rl_ne (by omega))).trans t1
      have tly6 := (f9 _ (rl_ne (by omega))).trans tly6
      have gl1' := (f9 _ (rl_ne (by omega))).trans gl1'
      refine w_aload_n (pc' := 193) dX10_tries_192 rfl rfl ?_
      refine w_get 4 (pc' := 196) dX10_tries_193 rfl fX10_19_8 b9' rfl ?_
      refine w_iload_n (pc' := 197) dX10_tries_196 rfl rfl ?_
      refine w_dup2 (pc' := 198) dX10_tries_197 rfl rfl rfl ?_
      refine w_iald (pc' := 199) dX10_tries_198 rfl t1 hk.1 (by omega) ?_
      -- at 199: .iconst 1
      rw [tgk]
      refine w_iconst (pc' := 200) dX10_tries_199 rfl (by decide) ?_
      refine w_iadd (pc' := 201) dX10_tries_200 rfl ⟨by first | omega | (simp (decide := true) only [au_1, nu_2, au_lt, nu_lt, aw_e, nw_e, au_s, au_n, nu_s, nu_n, au_au, nu_nu, au_nu]; omega), by first | omega | (simp (decide := true) only [au_1, nu_2, au_lt, nu_lt, aw_e, nw_e, au_s, au_n, nu_s, nu_n, au_au, nu_nu, au_nu]; omega)⟩ ?_
      refine w_iast (pc' := 202) dX10_tries_201 rfl t1 hk.1 (by omega)  ?_
      -- at 202: .aload_n 0
      refine w_upd (fun G10 b10' f10 => ?_)
      have b9' := (f10 _ (rl_ne (by omega))).trans b9'
      have tly6 := (f10 _ (rl_ne (by omega))).trans tly6
      have gl1' := (f10 _ (rl_ne (by omega))).trans gl1'
      refine w_aload_n (pc' := 203) dX10_tries_202 rfl rfl ?_
      refine w_get 5 (pc' := 206) dX10_tries_203 rfl fX10_34_8 b9' rfl ?_
      refine w_iload_n (pc' := 207) dX10_tries_206 rfl rfl ?_
      refine w_aaldM (pc' := 208) dX10_tries_207 rfl tly6 hy.1 hy.2 ?_
      refine w_iload_n (pc' := 209) dX10_tries_208 rfl rfl ?_
      refine w_iconst (pc' := 210) dX10_tries_209 rfl (by decide) ?_
      refine w_iast (pc' := 211) dX10_tries_210 rfl gl1' hx.1 hx.2  ?_
      -- at 211: .return_
      refine w_upd (fun G11 b11' f11 => ?_)
      have b9' := (f11 _ (rl_ne (by omega))).trans b9'
      have b10' := (f11 _ (rl_ne (by omega))).trans b10'
      refine w_return dX10_tries_211 rfl ?_
      have ch11 : ∀ q : Rl, q ≠ fO f → q ≠ (27, 8 * f + 1, y) → q ≠ (25, f, 1) → G11 q = G7 q := fun q q1 q2 q3 => by rw [f11 q q2, f10 q q3, f9 q q1, f8 q q1]
      have fr11 : ffo f G7 G11 := fun q q1 q2 q3 => ch11 q (fun z => q2 (by rw [z]; exact ⟨by simp only []; omega, rfl⟩)) (fun z => q3 (by rw [z]; exact ⟨rfl, by simp only []; omega, by simp only []; omega⟩)) (fun z => q2 (by rw [z]; exact ⟨by simp only []; omega, rfl⟩))
      refine h A2 rfl G11 (ffo_t (ffo_t fr6 f7) fr11) ⟨(ch11 oR (rl_ne (by omega)) (rl_ne (by omega)) (rl_ne (by omega))).trans tof, Rkin_o fr11 tkin, ?_, fbd_fr (ch11 _ (rl_ne (by omega)) (rl_ne (by omega)) (rl_ne (by omega))) (fun i => ch11 _ (rl_ne (by omega)) (rl_ne (by omega)) (rl_ne (by omega))) tbd, ?_, fxt_fr rfl rfl (fun n hn => ch11 _ (rl_ne (by omega)) (rl_ne (by omega)) (rl_ne (by omega))) (fun n i hn _ => ch11 _ (rl_ne (by omega)) (rl_ne (by omega)) (rl_ne (by omega))) (ch11 _ (rl_ne (by omega)) (rl_ne (by omega)) (rl_ne (by omega))) txt, ?_⟩ hA7
      · rw [show c + σ.2 2 k - σ.2 2 k = c by omega] at b9'
        exact b9'
      · have z := fbd_s (fbd_fr (G' := G10) ((f10 _ (rl_ne (by omega))).trans ((f9 _ (rl_ne (by omega))).trans (f8 _ (rl_ne (by omega))))) (fun i => (f10 _ (rl_ne (by omega))).trans ((f9 _ (rl_ne (by omega))).trans (f8 _ (rl_ne (by omega))))) tly) gl1' b11' f11
        refine fbd_c (fun i j i0 i1 j0 j1 => ?_) z
        unfold upd2
        simp only []
        rw [lyset _ _ i j i0 i1 j0 j1]
        by_cases e : i = y ∧ j = x
        · rw [if_pos e, e.1, e.2]
          have hlz : lyB σ f b y x = 0 := by
            have ht := hop.2
            rw [← Int.add_assoc] at ht
            unfold lyB
            rw [if_pos (show (0 ≤ y ∧ y < σ.2 35 f) ∧ 0 ≤ x ∧ x < σ.2 36 f from ⟨⟨hy.1, by omega⟩, hx.1, by omega⟩), ht, if_neg (by decide), if_neg (by decide), hb0]
          rw [hlz]
          rfl
        · rw [if_neg e, if_neg e]
      · refine ⟨_, b10', fun j j0 j1 => ?_⟩
        have z := t2 j j0 j1
        unfold iset at z ⊢
        by_cases e : j = k
        · rw [if_pos e, e]
          omega
        · rw [if_neg e]
          rw [if_neg e] at z
          exact z
    refine w_aload_n (pc' := 71) dX10_tries_70 rfl rfl ?_
    refine w_get 10 (pc' := 74) dX10_tries_71 rfl fX10_89_8 hO rfl ?_
    refine w_sipush (pc' := 77) dX10_tries_74 rfl (by decide +kernel) (by decide) ?_
    -- at 77: .if_icmp .eq 15
    refine w_icmp_eq (pc' := 80) (tgt := 92) dX10_tries_77 rfl rfl (fun q4 => ?_) (fun q4 => ?_)
    · exact out (Or.inl q4)
    · refine w_aload_n (pc' := 81) dX10_tries_80 rfl rfl ?_
      refine w_get 19 (pc' := 84) dX10_tries_81 rfl fX10_3_8 hO rfl ?_
      refine w_get 7 (pc' := 87) dX10_tries_84 rfl fX10_157_0 hof0 rfl ?_
      refine w_ldc (z := 600000) (pc' := 89) dX10_tries_87 rfl q1016 (by decide +kernel) (by decide) ?_
      -- at 89: .if_icmp .ne 9
      refine w_icmp_ne (pc' := 92) (tgt := 98) dX10_tries_89 rfl rfl (fun q5 => ?_) (fun q5 => ?_)
      · exact inn (fun z => z.elim q4 q5)
      · exact out (Or.inr q5)
  have cmp : ∀ s : Int, s = least * o → byc ≠ 0 → tvW mX10_tries (D + 7) K 59 [some (xR (fO f)), some (xI y), some (xI x), some (xI k), some (xI m), some (xI (σ.2 2 k))] [xL s, xL (c + σ.2 2 k)] G bc bs := by
    intro s es hb1
    have la := lAdd_of (a := c + σ.2 2 k) (b := s) ⟨by omega, by omega⟩
    refine w_ladd (pc' := 60) dX10_tries_59 rfl ?_
    -- at 60: .aload_n 0
    rw [la]
    refine w_aload_n (pc' := 61) dX10_tries_60 rfl rfl ?_
    refine w_get 13 (pc' := 64) dX10_tries_61 rfl fX10_101_8 hO rfl ?_
    refine w_i2l (pc' := 65) dX10_tries_64 rfl ?_
    refine w_lcmp (pc' := 66) dX10_tries_65 rfl ?_
    -- at 66: .ifCond .lt 4
    refine w_if_lt (pc' := 69) (tgt := 70) dX10_tries_66 rfl rfl (fun q3 => ?_) (fun q3 => ?_)
    · have q3 := lCmp_lt.mp q3
      refine go (fun z => ?_)
      unfold bes at q3
      rw [if_pos (by omega)] at q3
      omega
    · have q3 := lCmp_ge.mp (show 0 ≤ lCmp _ _ by omega)
      have hfo : 0 < (A).2.2.1 := by
        by_cases z : 0 < (A).2.2.1
        · exact z
        · unfold bes at q3
          rw [if_neg z] at q3
          omega
      unfold bes at q3
      rw [if_pos hfo] at q3
      rw [if_pos ⟨hb1, by omega, by omega⟩] at h
      refine w_return dX10_tries_69 rfl ?_
      exact h A rfl G (fun _ _ _ _ => rfl) hS hA
  refine w_aload_n (pc' := 1) dX10_tries_0 rfl rfl ?_
  refine w_get 19 (pc' := 4) dX10_tries_1 rfl fX10_3_8 hO rfl ?_
  refine w_get 0 (pc' := 7) dX10_tries_4 rfl fX10_52_0 hof0 rfl ?_
  refine w_iload_n (pc' := 8) dX10_tries_7 rfl rfl ?_
  -- at 8: .invokevirtual 56
  refine w_callV1 (pc' := 11) (mc := 0) (ms := 0) dX10_tries_8 rfl tJ2_get q211 rfl rfl q212 q952 hlO rfl (Nat.le_of_ble_eq_true rfl) (Nat.le_of_ble_eq_true rfl) ?_
  refine c_J2_get hkin.1 hk ?_
  refine w_p1 ?_
  refine w_cast (pc' := 14) dX10_tries_11 rfl tl.1 rfl q953 ?_
  refine w_get 2 (pc' := 17) dX10_tries_14 rfl fX10_113_2 tl.1 rfl ?_
  refine w_ist5 (pc' := 19) dX10_tries_17 rfl rfl ?_
  refine w_aload_n (pc' := 20) dX10_tries_19 rfl rfl ?_
  refine w_get 17 (pc' := 23) dX10_tries_20 rfl fX10_127_8 hO rfl ?_
  -- at 23: .ifCond .eq 47
  refine w_if_eq (pc' := 26) (tgt := 70) dX10_tries_23 rfl rfl (fun q => ?_) (fun q => ?_)
  · exact go (fun z => z.1 q)
  · refine w_aload_n (pc' := 27) dX10_tries_26 rfl rfl ?_
    refine w_get 14 (pc' := 30) dX10_tries_27 rfl fX10_95_8 hO rfl ?_
    refine w_iload (pc' := 32) dX10_tries_30 rfl rfl ?_
    refine w_iadd (pc' := 33) dX10_tries_32 rfl ⟨by first | omega | (simp (decide := true) only [au_1, nu_2, au_lt, nu_lt, aw_e, nw_e, au_s, au_n, nu_s, nu_n, au_au, nu_nu, au_nu]; omega), by first | omega | (simp (decide := true) only [au_1, nu_2, au_lt, nu_lt, aw_e, nw_e, au_s, au_n, nu_s, nu_n, au_au, nu_nu, au_nu]; omega)⟩ ?_
    refine w_i2l (pc' := 34) dX10_tries_33 rfl ?_
    refine w_aload_n (pc' := 35) dX10_tries_34 rfl rfl ?_
    refine w_get 16 (pc' := 38) dX10_tries_35 rfl fX10_110_8 hO rfl ?_
    refine w_iconst (pc' := 39) dX10_tries_38 rfl (by decide) ?_
    -- at 39: .if_icmp .le 19
    refine w_icmp_le (pc' := 42) (tgt := 58) dX10_tries_39 rfl rfl (fun q2 => ?_) (fun q2 => ?_)
    · have o0 : (o : Int) = 0 := by omega
      refine w_lconst (z := 0) (pc' := 59) dX10_tries_58 rfl rfl (by decide) ?_
      -- at 59: .ladd
      refine cmp 0 ?_ q
      rw [o0, Int.mul_zero]
    · have lm := lMul_of (a := (o : Int)) (b := least) ⟨by rw [Int.mul_comm]; omega, by rw [Int.mul_comm]; omega⟩
      refine w_aload_n (pc' := 43) dX10_tries_42 rfl rfl ?_
      refine w_get 16 (pc' := 46) dX10_tries_43 rfl fX10_110_8 hO rfl ?_
      refine w_iconst (pc' := 47) dX10_tries_46 rfl (by decide) ?_
      refine w_isub (pc' := 48) dX10_tries_47 rfl ⟨by first | omega | (simp (decide := true) only [au_1, nu_2, au_lt, nu_lt, aw_e, nw_e, au_s, au_n, nu_s, nu_n, au_au, nu_nu, au_nu]; omega), by first | omega | (simp (decide := true) only [au_1, nu_2, au_lt, nu_lt, aw_e, nw_e, au_s, au_n, nu_s, nu_n, au_au, nu_nu, au_nu]; omega)⟩ ?_
      refine w_i2l (pc' := 49) dX10_tries_48 rfl ?_
      refine w_aload_n (pc' := 50) dX10_tries_49 rfl rfl ?_
      refine w_get 15 (pc' := 53) dX10_tries_50 rfl fX10_107_8 hO rfl ?_
      refine w_i2l (pc' := 54) dX10_tries_53 rfl ?_
      refine w_lmul (pc' := 55) dX10_tries_54 rfl ?_
      -- at 55: .goto 4
      rw [show (o : Int) + 1 - 1 = o by omega, ele q, lm]
      refine w_goto (tgt := 59) dX10_tries_55 rfl ?_
      -- at 59: .ladd
      exact cmp _ (Int.mul_comm _ _) q
end
