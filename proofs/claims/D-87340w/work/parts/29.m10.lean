set_option maxRecDepth 10000
theorem iset_i {f : Int → Int} {i v w : Int} : iset (iset f i v) i w = iset f i w := by
  funext j; unfold iset; split <;> rfl
def gcl (f : Int → Int) (M : Int) (P : GP) (n : Int) : Int → Int := fun z => if (M ≤ z / 60 ∧ z / 60 < M + n) ∧ z % 60 < P.1 (z / 60 - M) then P.2.2 (z / 60 - M) (z % 60) else f z
theorem gcl_0 {f : Int → Int} {M : Int} {P : GP} : gcl f M P 0 = f := by
  funext z; unfold gcl; rw [if_neg (by omega)]
theorem gcl_s {f : Int → Int} {M n : Int} {P : GP} (hn : 0 ≤ n) (hl : 0 ≤ P.1 n ∧ P.1 n ≤ 60) : rfill (gcl f M P n) (60 * (M + n)) (P.1 n) (fun z => P.2.2 n (z - 60 * (M + n))) = gcl f M P (n + 1) := by
  funext z
  unfold rfill gcl
  by_cases h : 60 * (M + n) ≤ z ∧ z < 60 * (M + n) + P.1 n
  · have e : z / 60 - M = n := by omega
    rw [if_pos h, if_pos ⟨⟨by omega, by omega⟩, by rw [e]; omega⟩, e, show z % 60 = z - 60 * (M + n) by omega]
  · rw [if_neg h]
    by_cases h2 : z / 60 = M + n
    · have e : z / 60 - M = n := by omega
      rw [if_neg (by omega), if_neg (by rw [e]; omega)]
    · by_cases h3 : (M ≤ z / 60 ∧ z / 60 < M + n) ∧ z % 60 < P.1 (z / 60 - M)
      · rw [if_pos h3, if_pos ⟨⟨by omega, by omega⟩, h3.2⟩]
      · rw [if_neg h3, if_neg (fun q => h3 ⟨⟨by omega, by omega⟩, q.2⟩)]
theorem gpok_0 {σ : MS} {p : Int} (hR : rok σ) (hP : pok σ) (hp : 0 ≤ p ∧ p < σ.1 12) (hc : ∀ i, rg (σ.2 8 i)) : gpok σ (σ.2 11 p) (gp0 σ p) := by
  intro i i0 i1
  obtain ⟨r1, r2⟩ := (hP.2 p hp.1 hp.2).2 i i0 i1
  obtain ⟨l, o, c⟩ := hR.2 _ r1 r2
  exact ⟨l, o, fun k k0 k1 => ⟨c k k0 k1, hc _⟩⟩
theorem gpok_S {σ : MS} {r m : Int} {P : GP} (hK : kok σ) (hQ : qok σ) (hr : 0 ≤ r ∧ r < σ.1 29) (hP : gpok σ m P) (ho : okS σ r m P) : gpok σ (m * (σ.2 26 r)) (gpS σ r P) := by
  obtain ⟨hR, hC, hB⟩ := hQ.2 r hr.1 hr.2
  intro t t0 t1
  obtain ⟨⟨a0, a1⟩, ⟨b0, b1⟩, e⟩ := dvc (k := t) (c := (σ.2 26 r)) (r := m) (by omega) t0 t1
  obtain ⟨l, o, c⟩ := hP (t / (σ.2 26 r)) a0 a1
  obtain ⟨h1, h2, h3⟩ := ho.2 (t / (σ.2 26 r)) a0 a1
  refine ⟨⟨Int.mul_nonneg l.1 (by omega), h1⟩, h2, fun k k0 k1 => ?_⟩
  obtain ⟨⟨c0, c1⟩, ⟨d0, d1⟩, -⟩ := dvc (k := k) (c := (σ.2 27 r)) (r := P.1 (t / (σ.2 26 r))) (by omega) k0 k1
  have hcc := c _ c0 c1
  have h4 := h3 _ c0 c1
  refine blk_r hK hQ hcc.1 hcc.2 hr (fun q => ⟨b0, ?_⟩) (fun q => ⟨d0, ?_⟩)
  · unfold mvR; split <;> omega
  · unfold mvC; split <;> omega
def grwOk (σ : MS) (p r n : Int) : Prop := ((0 ≤ p ∧ p < σ.1 12) ∧ (0 ≤ r ∧ r < σ.1 29) ∧ (0 ≤ n ∧ n ≤ 5) ∧ σ.1 12 < 16) ∧ (∀ s : Nat, (s : Int) < n → okS σ r (gpM σ r (σ.2 11 p) s) (gpN σ r (gp0 σ p) s)) ∧ gpM σ r (σ.2 11 p) n.toNat ≤ 6000 - σ.1 9
def sGrow (σ : MS) (P : GP) (m : Int) (f g h : Int → Int) (x y : Int) : MS := (nu (nu (nu (nu (au (au (au (au (au (au (au (au σ 6 (rfill (σ.2 6) (σ.1 9) (m) (fun q => (P).1 (q - σ.1 9)))) 7 (rfill (σ.2 7) (σ.1 9) (m) (fun q => (P).2.1 (q - σ.1 9)))) 8 (gcl (σ.2 8) (σ.1 9) (P) (m))) 10 (rfill (σ.2 10) (60 * σ.1 12) (m) (fun z => σ.1 9 + (z - 60 * σ.1 12)))) 11 (iset (σ.2 11) (σ.1 12) m)) 30 (f)) 31 (g)) 32 (h)) 9 (σ.1 9 + (m))) 12 (σ.1 12 + 1)) 18 (x)) 19 (y))
section
variable {d : Nat} {K : Option XV → GH → Prop} {G0 G : GH} {bc bs : Nat} {σ : MS} {M : tv_M} {pc : Nat} {L : List (Option XV)} {st : List XV}
/-- the rows that have grown become a pattern's -/
theorem c_X1_grow_3 {p r n m s : Int} {P : GP} {f g h : Int → Int} {x y : Int} {x6 x7 x8 x9 x10 : Option XV} (hR : rok σ) (hp : 0 ≤ σ.1 12 ∧ σ.1 12 < 16) (hs : s = 0 ∨ s = 1) (hm : 0 ≤ m ∧ m ≤ 60) (hP : gpok σ m P) (hrep : rep s m P f g h) (hmd : m ≤ 6000 - σ.1 9)
    (h1 : ∀ x y, K (some (xI (σ.1 12))) (ov (sGrow σ P m f g h x y) G0)) :
    tvW mX1_grow (d + 4) K 208 [some (xR mR), some (xI p), some (xI r), some (xI n), some (xI m), some (xI s), x6, x7, x8, x9, x10] [] (ov (nu (nu (au (au (au σ 30 (f)) 31 (g)) 32 (h)) 18 (x)) 19 (y)) G0) bc bs := by
  have hm1 := hR.1
  refine w_aload_n (pc' := 209) dX1_grow_208 rfl rfl ?_
  -- at 209: .invokevirtual 248
  try simp (decide := true) only [au_1, nu_2, au_lt, nu_lt, aw_e, nw_e, au_s, au_n, nu_s, nu_n, au_au, nu_nu, au_nu]
  refine w_callV0 (pc' := 212) (mc := 0) (ms := 0) dX1_grow_209 rfl tX1_pattern q1285 rfl rfl q1286 q1425 ov_o rfl (Nat.le_of_ble_eq_true rfl) (Nat.le_of_ble_eq_true rfl) ?_
  refine c_X1_pattern ⟨hp.1, show σ.1 12 ≤ 16 by omega⟩ (fun _ => w_p1 ?_) (fun q => absurd (show σ.1 12 = 16 from q) (by omega))
  try simp (decide := true) only [au_1, nu_2, au_lt, nu_lt, aw_e, nw_e, au_s, au_n, nu_s, nu_n, au_au, nu_nu, au_nu]
  refine w_ist6 (pc' := 214) dX1_grow_212 rfl rfl ?_
  refine w_aload_n (pc' := 215) dX1_grow_214 rfl rfl ?_
  refine w_mga 11 (pc' := 218) dX1_grow_215 rfl fX1_40_1 rfl ?_
  refine w_iload (pc' := 220) dX1_grow_218 rfl rfl ?_
  refine w_iload (pc' := 222) dX1_grow_220 rfl rfl ?_
  refine w_aui (pc' := 223) dX1_grow_222 rfl rfl (by first | omega | (simp (decide := true) only [au_1, nu_2, au_lt, nu_lt, aw_e, nw_e, au_s, au_n, nu_s, nu_n, au_au, nu_nu, au_nu]; omega)) (by first | omega | (simp (decide := true) only [au_1, nu_2, au_lt, nu_lt, aw_e, nw_e, au_s, au_n, nu_s, nu_n, au_au, nu_nu, au_nu]; omega)) ?_
  try simp (decide := true) only [au_1, nu_2, au_lt, nu_lt, aw_e, nw_e, au_s, au_n, nu_s, nu_n, au_au, nu_nu, au_nu]
  refine w_iconst (pc' := 224) dX1_grow_223 rfl (by decide) ?_
  refine w_ist7 (pc' := 226) dX1_grow_224 rfl rfl ?_
  -- at 226: .iload 7
  try simp (decide := true) only [au_1, nu_2, au_lt, nu_lt, aw_e, nw_e, au_s, au_n, nu_s, nu_n, au_au, nu_nu, au_nu]
  rw [iset_i]
  refine w_ms (τ := (nu (nu (nu (nu (au (au (au (au (au (au (au (au σ 6 (rfill (σ.2 6) (σ.1 9) (0) (fun q => (P).1 (q - σ.1 9)))) 7 (rfill (σ.2 7) (σ.1 9) (0) (fun q => (P).2.1 (q - σ.1 9)))) 8 (gcl (σ.2 8) (σ.1 9) (P) (0))) 10 (rfill (σ.2 10) (60 * σ.1 12) (0) (fun z => σ.1 9 + (z - 60 * σ.1 12)))) 11 (iset (σ.2 11) (σ.1 12) m)) 30 (f)) 31 (g)) 32 (h)) 9 (σ.1 9 + (0))) 12 (σ.1 12 + 1)) 18 (x)) 19 (y))) ?_ ?_
  · rw [rfill_0, rfill_0, rfill_0, gcl_0, Int.add_zero]
    show _ = nu (nu (nu (nu (au (au (au (au (au (au (au (au σ 6 (σ.2 6)) 7 (σ.2 7)) 8 (σ.2 8)) 10 (σ.2 10)) 11 _) 30 f) 31 g) 32 h) 9 (σ.1 9)) 12 _) 18 x) 19 y
    rw [au_id, au_id, au_id, au_id]
    refine Prod.ext (funext fun k => ?_) rfl
    show (if k = 19 then _ else if k = 18 then _ else if k = 12 then _ else σ.1 k) = (if k = 19 then _ else if k = 18 then _ else if k = 12 then _ else if k = 9 then σ.1 9 else σ.1 k)
    by_cases e : k = 9
    · subst e; rfl
    · rw [if_neg e]
  refine up (T := fun i => ∀ x8 x9 x10 : Option XV, tvW mX1_grow (d + 4) K 226 [some (xR mR), some (xI p), some (xI r), some (xI n), some (xI m), some (xI s), some (xI (σ.1 12)), some (xI i), x8, x9, x10] [] (ov (nu (nu (nu (nu (au (au (au (au (au (au (au (au σ 6 (rfill (σ.2 6) (σ.1 9) (i) (fun q => (P).1 (q - σ.1 9)))) 7 (rfill (σ.2 7) (σ.1 9) (i) (fun q => (P).2.1 (q - σ.1 9)))) 8 (gcl (σ.2 8) (σ.1 9) (P) (i))) 10 (rfill (σ.2 10) (60 * σ.1 12) (i) (fun z => σ.1 9 + (z - 60 * σ.1 12)))) 11 (iset (σ.2 11) (σ.1 12) m)) 30 (f)) 31 (g)) 32 (h)) 9 (σ.1 9 + (i))) 12 (σ.1 12 + 1)) 18 (x)) 19 (y)) G0) bc bs) m hm.1 (fun x8 x9 x10 => ?_) (fun i i0 i1 ih x8 x9 x10 => ?_) _ _ _
  · refine w_iload (pc' := 228) dX1_grow_226 rfl rfl ?_
    refine w_iload (pc' := 230) dX1_grow_228 rfl rfl ?_
    -- at 230: .if_icmp .ge 101
    try simp (decide := true) only [au_1, nu_2, au_lt, nu_lt, aw_e, nw_e, au_s, au_n, nu_s, nu_n, au_au, nu_nu, au_nu]
    refine w_icmp_ge (pc' := 233) (tgt := 331) dX1_grow_230 rfl rfl (fun h_ => ?_) (fun h_ => False.elim (by first | omega | (simp (decide := true) only [au_1, nu_2, au_lt, nu_lt, aw_e, nw_e, au_s, au_n, nu_s, nu_n, au_au, nu_nu, au_nu] at h_; omega)))
    refine w_iload (pc' := 333) dX1_grow_331 rfl rfl ?_
    -- at 333: .ireturn
    try simp (decide := true) only [au_1, nu_2, au_lt, nu_lt, aw_e, nw_e, au_s, au_n, nu_s, nu_n, au_au, nu_nu, au_nu]
    refine w_ireturn dX1_grow_333 rfl ?_
    exact h1 x y
  · obtain ⟨⟨l0, l1⟩, ⟨o0, o1⟩, -⟩ := hP i i0 i1
    obtain ⟨r1, r2, r3⟩ := hrep i i0 i1
    refine w_iload (pc' := 228) dX1_grow_226 rfl rfl ?_
    refine w_iload (pc' := 230) dX1_grow_228 rfl rfl ?_
    -- at 230: .if_icmp .ge 101
    try simp (decide := true) only [au_1, nu_2, au_lt, nu_lt, aw_e, nw_e, au_s, au_n, nu_s, nu_n, au_au, nu_nu, au_nu]
    refine w_icmp_ge (pc' := 233) (tgt := 331) dX1_grow_230 rfl rfl (fun h_ => False.elim (by first | omega | (simp (decide := true) only [au_1, nu_2, au_lt, nu_lt, aw_e, nw_e, au_s, au_n, nu_s, nu_n, au_au, nu_nu, au_nu] at h_; omega))) (fun h_ => ?_)
    refine w_bipush (pc' := 235) dX1_grow_233 rfl (by decide +kernel) (by decide) ?_
    refine w_iload (pc' := 237) dX1_grow_235 rfl rfl ?_
    refine w_imul (pc' := 238) dX1_grow_237 rfl ⟨by first | omega | (simp (decide := true) only [au_1, nu_2, au_lt, nu_lt, aw_e, nw_e, au_s, au_n, nu_s, nu_n, au_au, nu_nu, au_nu]; omega), by first | omega | (simp (decide := true) only [au_1, nu_2, au_lt, nu_lt, aw_e, nw_e, au_s, au_n, nu_s, nu_n, au_au, nu_nu, au_nu]; omega)⟩ ?_
    refine w_iload (pc' := 240) dX1_grow_238 rfl rfl ?_
    refine w_iadd (pc' := 241) dX1_grow_240 rfl ⟨by first | omega | (simp (decide := true) only [au_1, nu_2, au_lt, nu_lt, aw_e, nw_e, au_s, au_n, nu_s, nu_n, au_au, nu_nu, au_nu]; omega), by first | omega | (simp (decide := true) only [au_1, nu_2, au_lt, nu_lt, aw_e, nw_e, au_s, au_n, nu_s, nu_n, au_au, nu_nu, au_nu]; omega)⟩ ?_
    refine w_ist8 (pc' := 243) dX1_grow_241 rfl rfl ?_
    refine w_aload_n (pc' := 244) dX1_grow_243 rfl rfl ?_
    refine w_aload_n (pc' := 245) dX1_grow_244 rfl rfl ?_
    refine w_mga 31 (pc' := 248) dX1_grow_245 rfl fX1_76_1 rfl ?_
    refine w_iload (pc' := 250) dX1_grow_248 rfl rfl ?_
    refine w_mild (pc' := 251) dX1_grow_250 rfl rfl (by rcases hs with rfl | rfl <;> omega) (by rcases hs with rfl | rfl <;> omega) ?_
    -- at 251: .aload_n 0
    try simp (decide := true) only [au_1, nu_2, au_lt, nu_lt, aw_e, nw_e, au_s, au_n, nu_s, nu_n, au_au, nu_nu, au_nu]
    rw [r1]
    refine w_aload_n (pc' := 252) dX1_grow_251 rfl rfl ?_
    refine w_mga 32 (pc' := 255) dX1_grow_252 rfl fX1_79_1 rfl ?_
    refine w_iload (pc' := 257) dX1_grow_255 rfl rfl ?_
    refine w_mild (pc' := 258) dX1_grow_257 rfl rfl (by rcases hs with rfl | rfl <;> omega) (by rcases hs with rfl | rfl <;> omega) ?_
    -- at 258: .invokevirtual 194
    try simp (decide := true) only [au_1, nu_2, au_lt, nu_lt, aw_e, nw_e, au_s, au_n, nu_s, nu_n, au_au, nu_nu, au_nu]
    rw [r2]
    refine w_callV2 (pc' := 261) (mc := 0) (ms := 0) dX1_grow_258 rfl tX1_newRow q1306 rfl rfl qs45 q1304 ov_o rfl (Nat.le_of_ble_eq_true rfl) (Nat.le_of_ble_eq_true rfl) ?_
    refine c_X1_newRow (show 0 ≤ σ.1 9 + i ∧ σ.1 9 + i < 6000 by omega) ⟨l0, l1⟩ ?_
    refine w_p1 ?_
    simp (decide := true) only [sNew, au_1, nu_2, au_lt, nu_lt, aw_e, nw_e, au_s, au_n, nu_s, nu_n, au_au, nu_nu, au_nu]
    rw [rfill_s' i0 rfl (show P.1 i = P.1 (σ.1 9 + i - σ.1 9) from congrArg P.1 (by omega)), rfill_s' i0 rfl (show P.2.1 i = P.2.1 (σ.1 9 + i - σ.1 9) from congrArg P.2.1 (by omega))]
    refine w_ist9 (pc' := 263) dX1_grow_261 rfl rfl ?_
    refine w_iconst (pc' := 264) dX1_grow_263 rfl (by decide) ?_
    refine w_ist10 (pc' := 266) dX1_grow_264 rfl rfl ?_
    -- at 266: .iload 10
    try simp (decide := true) only [au_1, nu_2, au_lt, nu_lt, aw_e, nw_e, au_s, au_n, nu_s, nu_n, au_au, nu_nu, au_nu]
    refine w_ms (τ := (nu (nu (nu (nu (au (au (au (au (au (au (au (au σ 6 (rfill (σ.2 6) (σ.1 9) (i + 1) (fun q => P.1 (q - σ.1 9)))) 7 (rfill (σ.2 7) (σ.1 9) (i + 1) (fun q => P.2.1 (q - σ.1 9)))) 8 (rfill (rfill (gcl (σ.2 8) (σ.1 9) P i) (60 * (σ.1 9 + i)) (P.1 i) (fun _ => 0)) (60 * (σ.1 9 + i)) (0) (fun z => P.2.2 i (z - 60 * (σ.1 9 + i))))) 10 (rfill (σ.2 10) (60 * σ.1 12) i (fun z => σ.1 9 + (z - 60 * σ.1 12)))) 11 (iset (σ.2 11) (σ.1 12) m)) 30 f) 31 g) 32 h) 9 (σ.1 9 + i + 1)) 12 (σ.1 12 + 1)) 18 x) 19 y)) (by rw [rfill_0 (f := rfill (gcl (σ.2 8) (σ.1 9) P i) (60 * (σ.1 9 + i)) (P.1 i) (fun _ => 0))]) ?_
    refine up (T := fun k => tvW mX1_grow (d + 4) K 266 [some (xR mR), some (xI p), some (xI r), some (xI n), some (xI m), some (xI s), some (xI (σ.1 12)), some (xI i), some (xI (60 * s + i)), some (xI (σ.1 9 + i)), some (xI k)] [] (ov (nu (nu (nu (nu (au (au (au (au (au (au (au (au σ 6 (rfill (σ.2 6) (σ.1 9) (i + 1) (fun q => P.1 (q - σ.1 9)))) 7 (rfill (σ.2 7) (σ.1 9) (i + 1) (fun q => P.2.1 (q - σ.1 9)))) 8 (rfill (rfill (gcl (σ.2 8) (σ.1 9) P i) (60 * (σ.1 9 + i)) (P.1 i) (fun _ => 0)) (60 * (σ.1 9 + i)) (k) (fun z => P.2.2 i (z - 60 * (σ.1 9 + i))))) 10 (rfill (σ.2 10) (60 * σ.1 12) i (fun z => σ.1 9 + (z - 60 * σ.1 12)))) 11 (iset (σ.2 11) (σ.1 12) m)) 30 f) 31 g) 32 h) 9 (σ.1 9 + i + 1)) 12 (σ.1 12 + 1)) 18 x) 19 y) G0) bc bs) (P.1 i) l0 ?_ (fun k k0 k1 ihk => ?_)
    · refine w_iload (pc' := 268) dX1_grow_266 rfl rfl ?_
      refine w_aload_n (pc' := 269) dX1_grow_268 rfl rfl ?_
      refine w_mga 31 (pc' := 272) dX1_grow_269 rfl fX1_76_1 rfl ?_
      refine w_iload (pc' := 274) dX1_grow_272 rfl rfl ?_
      refine w_mild (pc' := 275) dX1_grow_274 rfl rfl (by rcases hs with rfl | rfl <;> omega) (by rcases hs with rfl | rfl <;> omega) ?_
      -- at 275: .if_icmp .ge 35
      try simp (decide := true) only [au_1, nu_2, au_lt, nu_lt, aw_e, nw_e, au_s, au_n, nu_s, nu_n, au_au, nu_nu, au_nu]
      rw [r1]
      refine w_icmp_ge (pc' := 278) (tgt := 310) dX1_grow_275 rfl rfl (fun h_ => ?_) (fun h_ => False.elim (by first | omega | (simp (decide := true) only [au_1, nu_2, au_lt, nu_lt, aw_e, nw_e, au_s, au_n, nu_s, nu_n, au_au, nu_nu, au_nu] at h_; omega)))
      rw [rfill_rfill, gcl_s i0 ⟨l0, l1⟩]
      refine w_aload_n (pc' := 311) dX1_grow_310 rfl rfl ?_
      refine w_mga 10 (pc' := 314) dX1_grow_311 rfl fX1_37_1 rfl ?_
      refine w_bipush (pc' := 316) dX1_grow_314 rfl (by decide +kernel) (by decide) ?_
      refine w_iload (pc' := 318) dX1_grow_316 rfl rfl ?_
      refine w_imul (pc' := 319) dX1_grow_318 rfl ⟨by first | omega | (simp (decide := true) only [au_1, nu_2, au_lt, nu_lt, aw_e, nw_e, au_s, au_n, nu_s, nu_n, au_au, nu_nu, au_nu]; omega), by first | omega | (simp (decide := true) only [au_1, nu_2, au_lt, nu_lt, aw_e, nw_e, au_s, au_n, nu_s, nu_n, au_au, nu_nu, au_nu]; omega)⟩ ?_
      refine w_iload (pc' := 321) dX1_grow_319 rfl rfl ?_
      refine w_iadd (pc' := 322) dX1_grow_321 rfl ⟨by first | omega | (simp (decide := true) only [au_1, nu_2, au_lt, nu_lt, aw_e, nw_e, au_s, au_n, nu_s, nu_n, au_au, nu_nu, au_nu]; omega), by first | omega | (simp (decide := true) only [au_1, nu_2, au_lt, nu_lt, aw_e, nw_e, au_s, au_n, nu_s, nu_n, au_au, nu_nu, au_nu]; omega)⟩ ?_
      refine w_iload (pc' := 324) dX1_grow_322 rfl rfl ?_
      refine w_aui (pc' := 325) dX1_grow_324 rfl rfl (by first | omega | (simp (decide := true) only [au_1, nu_2, au_lt, nu_lt, aw_e, nw_e, au_s, au_n, nu_s, nu_n, au_au, nu_nu, au_nu]; omega)) (by first | omega | (simp (decide := true) only [au_1, nu_2, au_lt, nu_lt, aw_e, nw_e, au_s, au_n, nu_s, nu_n, au_au, nu_nu, au_nu]; omega)) ?_
      try simp (decide := true) only [au_1, nu_2, au_lt, nu_lt, aw_e, nw_e, au_s, au_n, nu_s, nu_n, au_au, nu_nu, au_nu]
      refine w_inc7 (pc' := 328) dX1_grow_325 rfl rfl ⟨by first | omega | (simp (decide := true) only [au_1, nu_2, au_lt, nu_lt, aw_e, nw_e, au_s, au_n, nu_s, nu_n, au_au, nu_nu, au_nu]; omega), by first | omega | (simp (decide := true) only [au_1, nu_2, au_lt, nu_lt, aw_e, nw_e, au_s, au_n, nu_s, nu_n, au_au, nu_nu, au_nu]; omega)⟩ ?_
      refine w_goto (tgt := 226) dX1_grow_328 rfl ?_
      -- at 226: .iload 7
      try simp (decide := true) only [au_1, nu_2, au_lt, nu_lt, aw_e, nw_e, au_s, au_n, nu_s, nu_n, au_au, nu_nu, au_nu]
      rw [rfill_s' i0 rfl (show σ.1 9 + i = σ.1 9 + (60 * σ.1 12 + i - 60 * σ.1 12) by omega), Int.add_assoc (σ.1 9)]
      exact ih _ _ _
    · refine w_iload (pc' := 268) dX1_grow_266 rfl rfl ?_
      refine w_aload_n (pc' := 269) dX1_grow_268 rfl rfl ?_
      refine w_mga 31 (pc' := 272) dX1_grow_269 rfl fX1_76_1 rfl ?_
      refine w_iload (pc' := 274) dX1_grow_272 rfl rfl ?_
      refine w_mild (pc' := 275) dX1_grow_274 rfl rfl (by rcases hs with rfl | rfl <;> omega) (by rcases hs with rfl | rfl <;> omega) ?_
      -- at 275: .if_icmp .ge 35
      try simp (decide := true) only [au_1, nu_2, au_lt, nu_lt, aw_e, nw_e, au_s, au_n, nu_s, nu_n, au_au, nu_nu, au_nu]
      rw [r1]
      refine w_icmp_ge (pc' := 278) (tgt := 310) dX1_grow_275 rfl rfl (fun h_ => False.elim (by first | omega | (simp (decide := true) only [au_1, nu_2, au_lt, nu_lt, aw_e, nw_e, au_s, au_n, nu_s, nu_n, au_au, nu_nu, au_nu] at h_; omega))) (fun h_ => ?_)
      refine w_aload_n (pc' := 279) dX1_grow_278 rfl rfl ?_
      refine w_mga 8 (pc' := 282) dX1_grow_279 rfl fX1_34_1 rfl ?_
      refine w_bipush (pc' := 284) dX1_grow_282 rfl (by decide +kernel) (by decide) ?_
      refine w_iload (pc' := 286) dX1_grow_284 rfl rfl ?_
      refine w_imul (pc' := 287) dX1_grow_286 rfl ⟨by first | omega | (simp (decide := true) only [au_1, nu_2, au_lt, nu_lt, aw_e, nw_e, au_s, au_n, nu_s, nu_n, au_au, nu_nu, au_nu]; omega), by first | omega | (simp (decide := true) only [au_1, nu_2, au_lt, nu_lt, aw_e, nw_e, au_s, au_n, nu_s, nu_n, au_au, nu_nu, au_nu]; omega)⟩ ?_
      refine w_iload (pc' := 289) dX1_grow_287 rfl rfl ?_
      refine w_iadd (pc' := 290) dX1_grow_289 rfl ⟨by first | omega | (simp (decide := true) only [au_1, nu_2, au_lt, nu_lt, aw_e, nw_e, au_s, au_n, nu_s, nu_n, au_au, nu_nu, au_nu]; omega), by first | omega | (simp (decide := true) only [au_1, nu_2, au_lt, nu_lt, aw_e, nw_e, au_s, au_n, nu_s, nu_n, au_au, nu_nu, au_nu]; omega)⟩ ?_
      refine w_aload_n (pc' := 291) dX1_grow_290 rfl rfl ?_
      refine w_mga 30 (pc' := 294) dX1_grow_291 rfl fX1_73_1 rfl ?_
      refine w_bipush (pc' := 296) dX1_grow_294 rfl (by decide +kernel) (by decide) ?_
      refine w_iload (pc' := 298) dX1_grow_296 rfl rfl ?_
      refine w_imul (pc' := 299) dX1_grow_298 rfl ⟨by first | omega | (simp (decide := true) only [au_1, nu_2, au_lt, nu_lt, aw_e, nw_e, au_s, au_n, nu_s, nu_n, au_au, nu_nu, au_nu]; omega), by first | omega | (simp (decide := true) only [au_1, nu_2, au_lt, nu_lt, aw_e, nw_e, au_s, au_n, nu_s, nu_n, au_au, nu_nu, au_nu]; omega)⟩ ?_
      refine w_iload (pc' := 301) dX1_grow_299 rfl rfl ?_
      refine w_iadd (pc' := 302) dX1_grow_301 rfl ⟨by first | omega | (simp (decide := true) only [au_1, nu_2, au_lt, nu_lt, aw_e, nw_e, au_s, au_n, nu_s, nu_n, au_au, nu_nu, au_nu]; omega), by first | omega | (simp (decide := true) only [au_1, nu_2, au_lt, nu_lt, aw_e, nw_e, au_s, au_n, nu_s, nu_n, au_au, nu_nu, au_nu]; omega)⟩ ?_
      refine w_mild (pc' := 303) dX1_grow_302 rfl rfl (by rcases hs with rfl | rfl <;> omega) (by rcases hs with rfl | rfl <;> omega) ?_
      -- at 303: .iastore
      try simp (decide := true) only [au_1, nu_2, au_lt, nu_lt, aw_e, nw_e, au_s, au_n, nu_s, nu_n, au_au, nu_nu, au_nu]
      rw [r3 k k0 k1]
      refine w_aui (pc' := 304) dX1_grow_303 rfl rfl (by first | omega | (simp (decide := true) only [au_1, nu_2, au_lt, nu_lt, aw_e, nw_e, au_s, au_n, nu_s, nu_n, au_au, nu_nu, au_nu]; omega)) (by first | omega | (simp (decide := true) only [au_1, nu_2, au_lt, nu_lt, aw_e, nw_e, au_s, au_n, nu_s, nu_n, au_au, nu_nu, au_nu]; omega)) ?_
      try simp (decide := true) only [au_1, nu_2, au_lt, nu_lt, aw_e, nw_e, au_s, au_n, nu_s, nu_n, au_au, nu_nu, au_nu]
      refine w_inc10 (pc' := 307) dX1_grow_304 rfl rfl ⟨by first | omega | (simp (decide := true) only [au_1, nu_2, au_lt, nu_lt, aw_e, nw_e, au_s, au_n, nu_s, nu_n, au_au, nu_nu, au_nu]; omega), by first | omega | (simp (decide := true) only [au_1, nu_2, au_lt, nu_lt, aw_e, nw_e, au_s, au_n, nu_s, nu_n, au_au, nu_nu, au_nu]; omega)⟩ ?_
      refine w_goto (tgt := 266) dX1_grow_307 rfl ?_
      -- at 266: .iload 10
      try simp (decide := true) only [au_1, nu_2, au_lt, nu_lt, aw_e, nw_e, au_s, au_n, nu_s, nu_n, au_au, nu_nu, au_nu]
      rw [rfill_s' k0 rfl (show P.2.2 i k = P.2.2 i (60 * (σ.1 9 + i) + k - 60 * (σ.1 9 + i)) from congrArg (P.2.2 i) (by omega))]
      exact ihk
theorem gw_id {σ : MS} : nu (nu (au (au (au σ 30 (σ.2 30)) 31 (σ.2 31)) 32 (σ.2 32)) 18 (σ.1 18)) 19 (σ.1 19) = σ := by
  rw [au_id, au_id, au_id, nu_id, nu_id]
theorem c_X1_grow {p r n : Int} (hK : kok σ) (hR : rok σ) (hP : pok σ) (hQ : qok σ) (h1 : grwOk σ p r n → ∀ f g h x y, K (some (xI (σ.1 12))) (ov (sGrow σ (gpN σ r (gp0 σ p) n.toNat) (gpM σ r (σ.2 11 p) n.toNat) f g h x y) G0)) (h0 : ¬ grwOk σ p r n → ∀ f g h x y, K (some (xI (-1))) (ov (nu (nu (au (au (au σ 30 (f)) 31 (g)) 32 (h)) 18 (x)) 19 (y)) G0)) :
    tvW mX1_grow (d + 4) K 0 [some (xR mR), some (xI p), some (xI r), some (xI n), none, none, none, none, none, none, none] [] (ov σ G0) bc bs := by
  unfold grwOk at h0 h1
  have bad : ¬ ((0 ≤ p ∧ p < σ.1 12) ∧ (0 ≤ r ∧ r < σ.1 29) ∧ (0 ≤ n ∧ n ≤ 5) ∧ σ.1 12 < 16) → tvW mX1_grow (d + 4) K 34 [some (xR mR), some (xI p), some (xI r), some (xI n), none, none, none, none, none, none, none] [] (ov σ G0) bc bs := by
    intro q
    refine w_iconst (pc' := 35) dX1_grow_34 rfl (by decide) ?_
    -- at 35: .ireturn
    try simp (decide := true) only [au_1, nu_2, au_lt, nu_lt, aw_e, nw_e, au_s, au_n, nu_s, nu_n, au_au, nu_nu, au_nu]
    refine w_ireturn dX1_grow_35 rfl ?_
    have := h0 (fun z => q z.1) (σ.2 30) (σ.2 31) (σ.2 32) (σ.1 18) (σ.1 19)
    rw [gw_id] at this
    exact this
  have hp1 := hP.1
  refine w_aload_n (pc' := 1) dX1_grow_0 rfl rfl ?_
  refine w_iload_n (pc' := 2) dX1_grow_1 rfl rfl ?_
  refine w_callV1 (pc' := 5) (mc := 0) (ms := 0) dX1_grow_2 rfl tX1_isPattern q1294 rfl rfl qs42 q1292 ov_o rfl (Nat.le_of_ble_eq_true rfl) (Nat.le_of_ble_eq_true rfl) ?_
  refine c_X1_isPattern  (fun g2a g2b => w_p1 ?_) (fun g2 => w_p1 ?_)
  rotate_left
  · refine w_if_eq (pc' := 8) (tgt := 34) dX1_grow_5 rfl rfl (fun h_ => ?_) (fun h_ => False.elim (by omega))
    exact bad (by omega)
  refine w_if_eq (pc' := 8) (tgt := 34) dX1_grow_5 rfl rfl (fun h_ => False.elim (by omega)) (fun h_ => ?_)
  refine w_aload_n (pc' := 9) dX1_grow_8 rfl rfl ?_
  refine w_iload_n (pc' := 10) dX1_grow_9 rfl rfl ?_
  refine w_callV1 (pc' := 13) (mc := 0) (ms := 0) dX1_grow_10 rfl tX1_isRule q1411 rfl rfl qs55 q1409 ov_o rfl (Nat.le_of_ble_eq_true rfl) (Nat.le_of_ble_eq_true rfl) ?_
  refine c_X1_isRule  (fun g10a g10b => w_p1 ?_) (fun g10 => w_p1 ?_)
  rotate_left
  · refine w_if_eq (pc' := 16) (tgt := 34) dX1_grow_13 rfl rfl (fun h_ => ?_) (fun h_ => False.elim (by omega))
    exact bad (by omega)
  refine w_if_eq (pc' := 16) (tgt := 34) dX1_grow_13 rfl rfl (fun h_ => False.elim (by omega)) (fun h_ => ?_)
  refine w_iload_n (pc' := 17) dX1_grow_16 rfl rfl ?_
  refine w_if_lt (pc' := 20) (tgt := 34) dX1_grow_17 rfl rfl (fun g17 => by exact bad (by omega)) (fun g17 => ?_)
  refine w_iload_n (pc' := 21) dX1_grow_20 rfl rfl ?_
  refine w_iconst (pc' := 22) dX1_grow_21 rfl (by decide) ?_
  refine w_icmp_gt (pc' := 25) (tgt := 34) dX1_grow_22 rfl rfl (fun g22 => by exact bad (by omega)) (fun g22 => ?_)
  refine w_aload_n (pc' := 26) dX1_grow_25 rfl rfl ?_
  refine w_mgi 12 (pc' := 29) dX1_grow_26 rfl fX1_169_1 rfl ?_
  refine w_bipush (pc' := 31) dX1_grow_29 rfl (by decide +kernel) (by decide) ?_
  refine w_icmp_ne (pc' := 34) (tgt := 36) dX1_grow_31 rfl rfl (fun g31 => ?_) (fun g31 => by exact bad (by omega))
  -- at 36: .aload_n 0
  have hp : 0 ≤ p ∧ p < σ.1 12 := ⟨g2a, g2b⟩
  have hr : 0 ≤ r ∧ r < σ.1 29 := ⟨g10a, g10b⟩
  have hM := (hP.2 p hp.1 hp.2).1
  have hm1 := hR.1
  have hq1 := hQ.1
  obtain ⟨hRr, hCr, hB⟩ := hQ.2 r hr.1 hr.2
  refine w_mok (fun _ hok => ?_)
  have hg0 := gpok_0 hR hP hp (fun i => hok 8 0 360000 rfl i)
  -- the steps
  have steps : ∀ (k : Nat) (s : Int) (f g h : Int → Int) (x y : Int) (x7 x8 x9 x10 : Option XV), (k : Int) ≤ n → (s = 0 ∨ s = 1) → (∀ j : Nat, j < k → okS σ r (gpM σ r (σ.2 11 p) j) (gpN σ r (gp0 σ p) j)) → (0 ≤ gpM σ r (σ.2 11 p) k ∧ gpM σ r (σ.2 11 p) k ≤ 60) → gpok σ (gpM σ r (σ.2 11 p) k) (gpN σ r (gp0 σ p) k) → rep s (gpM σ r (σ.2 11 p) k) (gpN σ r (gp0 σ p) k) f g h → tvW mX1_grow (d + 4) K 150 [some (xR mR), some (xI p), some (xI r), some (xI n), some (xI (gpM σ r (σ.2 11 p) k)), some (xI s), some (xI (k : Int)), x7, x8, x9, x10] [] (ov (nu (nu (au (au (au σ 30 (f)) 31 (g)) 32 (h)) 18 (x)) 19 (y)) G0) bc bs := by
    have : ∀ (j k : Nat) (s : Int) (f g h : Int → Int) (x y : Int) (x7 x8 x9 x10 : Option XV), k + j = n.toNat → (s = 0 ∨ s = 1) → (∀ j : Nat, j < k → okS σ r (gpM σ r (σ.2 11 p) j) (gpN σ r (gp0 σ p) j)) → (0 ≤ gpM σ r (σ.2 11 p) k ∧ gpM σ r (σ.2 11 p) k ≤ 60) → gpok σ (gpM σ r (σ.2 11 p) k) (gpN σ r (gp0 σ p) k) → rep s (gpM σ r (σ.2 11 p) k) (gpN σ r (gp0 σ p) k) f g h → tvW mX1_grow (d + 4) K 150 [some (xR mR), some (xI p), some (xI r), some (xI n), some (xI (gpM σ r (σ.2 11 p) k)), some (xI s), some (xI (k : Int)), x7, x8, x9, x10] [] (ov (nu (nu (au (au (au σ 30 (f)) 31 (g)) 32 (h)) 18 (x)) 19 (y)) G0) bc bs := by
      intro j
      induction j with
      | zero =>
        intro k s f g h x y x7 x8 x9 x10 hk hs hok1 hm hgp hrep
        have ek : k = n.toNat := by omega
        refine w_iload (pc' := 152) dX1_grow_150 rfl rfl ?_
        refine w_iload_n (pc' := 153) dX1_grow_152 rfl rfl ?_
        -- at 153: .if_icmp .ge 40
        try simp (decide := true) only [au_1, nu_2, au_lt, nu_lt, aw_e, nw_e, au_s, au_n, nu_s, nu_n, au_au, nu_nu, au_nu]
        refine w_icmp_ge (pc' := 156) (tgt := 193) dX1_grow_153 rfl rfl (fun h_ => ?_) (fun h_ => False.elim (by first | omega | (simp (decide := true) only [au_1, nu_2, au_lt, nu_lt, aw_e, nw_e, au_s, au_n, nu_s, nu_n, au_au, nu_nu, au_nu] at h_; omega)))
        refine w_iload (pc' := 195) dX1_grow_193 rfl rfl ?_
        refine w_sipush (pc' := 198) dX1_grow_195 rfl (by decide +kernel) (by decide) ?_
        refine w_aload_n (pc' := 199) dX1_grow_198 rfl rfl ?_
        refine w_mgi 9 (pc' := 202) dX1_grow_199 rfl fX1_172_1 rfl ?_
        refine w_isub (pc' := 203) dX1_grow_202 rfl ⟨by first | omega | (simp (decide := true) only [au_1, nu_2, au_lt, nu_lt, aw_e, nw_e, au_s, au_n, nu_s, nu_n, au_au, nu_nu, au_nu]; omega), by first | omega | (simp (decide := true) only [au_1, nu_2, au_lt, nu_lt, aw_e, nw_e, au_s, au_n, nu_s, nu_n, au_au, nu_nu, au_nu]; omega)⟩ ?_
        -- at 203: .if_icmp .le 5
        try simp (decide := true) only [au_1, nu_2, au_lt, nu_lt, aw_e, nw_e, au_s, au_n, nu_s, nu_n, au_au, nu_nu, au_nu]
        refine w_icmp_le (pc' := 206) (tgt := 208) dX1_grow_203 rfl rfl (fun g3 => ?_) (fun g3 => ?_)
        · rw [ek] at hm hgp hrep g3 ⊢
          refine c_X1_grow_3 hR (by omega) hs hm hgp hrep g3 (fun x y => h1 ⟨⟨hp, hr, by omega, by omega⟩, fun s q => hok1 s (by omega), by omega⟩ f g h x y)
        · rw [ek] at g3
          refine w_iconst (pc' := 207) dX1_grow_206 rfl (by decide) ?_
          -- at 207: .ireturn
          try simp (decide := true) only [au_1, nu_2, au_lt, nu_lt, aw_e, nw_e, au_s, au_n, nu_s, nu_n, au_au, nu_nu, au_nu]
          refine w_ireturn dX1_grow_207 rfl ?_
          exact h0 (fun z => by have := z.2.2; omega) f g h x y
      | succ j ih =>
        intro k s f g h x y x7 x8 x9 x10 hk hs hok1 hm hgp hrep
        have hmR := mlr (a := gpM σ r (σ.2 11 p) k) (b := (σ.2 26 r)) (A := 60) (B := 4) hm.1 hm.2 (by omega) (by omega)
        refine w_iload (pc' := 152) dX1_grow_150 rfl rfl ?_
        refine w_iload_n (pc' := 153) dX1_grow_152 rfl rfl ?_
        -- at 153: .if_icmp .ge 40
        try simp (decide := true) only [au_1, nu_2, au_lt, nu_lt, aw_e, nw_e, au_s, au_n, nu_s, nu_n, au_au, nu_nu, au_nu]
        refine w_icmp_ge (pc' := 156) (tgt := 193) dX1_grow_153 rfl rfl (fun h_ => False.elim (by first | omega | (simp (decide := true) only [au_1, nu_2, au_lt, nu_lt, aw_e, nw_e, au_s, au_n, nu_s, nu_n, au_au, nu_nu, au_nu] at h_; omega))) (fun h_ => ?_)
        refine w_aload_n (pc' := 157) dX1_grow_156 rfl rfl ?_
        refine w_iload_n (pc' := 158) dX1_grow_157 rfl rfl ?_
        refine w_iload (pc' := 160) dX1_grow_158 rfl rfl ?_
        refine w_iload (pc' := 162) dX1_grow_160 rfl rfl ?_
        -- at 162: .invokevirtual 244
        try simp (decide := true) only [au_1, nu_2, au_lt, nu_lt, aw_e, nw_e, au_s, au_n, nu_s, nu_n, au_au, nu_nu, au_nu]
        refine w_callV3 (pc' := 165) (mc := 0) (ms := 0) dX1_grow_162 rfl tX1_grown q1419 rfl rfl qs56 q1417 ov_o rfl (Nat.le_of_ble_eq_true rfl) (Nat.le_of_ble_eq_true rfl) ?_
        refine c_X1_grown hK hQ hr hs hm hgp hrep (fun q f g h x y hrep2 => w_p1 ?_) (fun q f g h x y => w_p1 ?_)
        · refine w_if_ne (pc' := 168) (tgt := 170) dX1_grow_165 rfl rfl (fun h_ => ?_) (fun h_ => False.elim (by first | omega | (simp (decide := true) only [au_1, nu_2, au_lt, nu_lt, aw_e, nw_e, au_s, au_n, nu_s, nu_n, au_au, nu_nu, au_nu] at h_; omega)))
          refine w_iload (pc' := 172) dX1_grow_170 rfl rfl ?_
          refine w_aload_n (pc' := 173) dX1_grow_172 rfl rfl ?_
          refine w_mga 26 (pc' := 176) dX1_grow_173 rfl fX1_64_1 rfl ?_
          refine w_iload_n (pc' := 177) dX1_grow_176 rfl rfl ?_
          refine w_mild (pc' := 178) dX1_grow_177 rfl rfl (by first | omega | (simp (decide := true) only [au_1, nu_2, au_lt, nu_lt, aw_e, nw_e, au_s, au_n, nu_s, nu_n, au_au, nu_nu, au_nu]; omega)) (by first | omega | (simp (decide := true) only [au_1, nu_2, au_lt, nu_lt, aw_e, nw_e, au_s, au_n, nu_s, nu_n, au_au, nu_nu, au_nu]; omega)) ?_
          refine w_imul (pc' := 179) dX1_grow_178 rfl ⟨by first | omega | (simp (decide := true) only [au_1, nu_2, au_lt, nu_lt, aw_e, nw_e, au_s, au_n, nu_s, nu_n, au_au, nu_nu, au_nu]; omega), by first | omega | (simp (decide := true) only [au_1, nu_2, au_lt, nu_lt, aw_e, nw_e, au_s, au_n, nu_s, nu_n, au_au, nu_nu, au_nu]; omega)⟩ ?_
          refine w_ist4 (pc' := 181) dX1_grow_179 rfl rfl ?_
          refine w_iconst (pc' := 182) dX1_grow_181 rfl (by decide) ?_
          refine w_iload (pc' := 184) dX1_grow_182 rfl rfl ?_
          refine w_isub (pc' := 185) dX1_grow_184 rfl ⟨by first | omega | (simp (decide := true) only [au_1, nu_2, au_lt, nu_lt, aw_e, nw_e, au_s, au_n, nu_s, nu_n, au_au, nu_nu, au_nu]; omega), by first | omega | (simp (decide := true) only [au_1, nu_2, au_lt, nu_lt, aw_e, nw_e, au_s, au_n, nu_s, nu_n, au_au, nu_nu, au_nu]; omega)⟩ ?_
          refine w_ist5 (pc' := 187) dX1_grow_185 rfl rfl ?_
          refine w_inc6 (pc' := 190) dX1_grow_187 rfl rfl ⟨by first | omega | (simp (decide := true) only [au_1, nu_2, au_lt, nu_lt, aw_e, nw_e, au_s, au_n, nu_s, nu_n, au_au, nu_nu, au_nu]; omega), by first | omega | (simp (decide := true) only [au_1, nu_2, au_lt, nu_lt, aw_e, nw_e, au_s, au_n, nu_s, nu_n, au_au, nu_nu, au_nu]; omega)⟩ ?_
          refine w_goto (tgt := 150) dX1_grow_190 rfl ?_
          -- at 150: .iload 6
          try simp (decide := true) only [au_1, nu_2, au_lt, nu_lt, aw_e, nw_e, au_s, au_n, nu_s, nu_n, au_au, nu_nu, au_nu]
          exact ih (k + 1) (1 - s) f g h x y _ _ _ _ (by omega) (by omega) (fun j' hj' => by
            by_cases e : j' = k
            · rw [e]; exact q
            · exact hok1 j' (by omega)) ⟨hmR.1, q.1⟩ (gpok_S hK hQ hr hgp q) hrep2
        · refine w_if_ne (pc' := 168) (tgt := 170) dX1_grow_165 rfl rfl (fun h_ => False.elim (by first | omega | (simp (decide := true) only [au_1, nu_2, au_lt, nu_lt, aw_e, nw_e, au_s, au_n, nu_s, nu_n, au_au, nu_nu, au_nu] at h_; omega))) (fun h_ => ?_)
          refine w_iconst (pc' := 169) dX1_grow_168 rfl (by decide) ?_
          -- at 169: .ireturn
          try simp (decide := true) only [au_1, nu_2, au_lt, nu_lt, aw_e, nw_e, au_s, au_n, nu_s, nu_n, au_au, nu_nu, au_nu]
          refine w_ireturn dX1_grow_169 rfl ?_
          exact h0 (fun z => q (z.2.1 k (by omega))) f g h x y
    intro k s f g h x y x7 x8 x9 x10 hk
    exact this (n.toNat - k) k s f g h x y x7 x8 x9 x10 (by omega)
  refine w_aload_n (pc' := 37) dX1_grow_36 rfl rfl ?_
  refine w_mga 11 (pc' := 40) dX1_grow_37 rfl fX1_40_1 rfl ?_
  refine w_iload_n (pc' := 41) dX1_grow_40 rfl rfl ?_
  refine w_mild (pc' := 42) dX1_grow_41 rfl rfl (by first | omega | (simp (decide := true) only [au_1, nu_2, au_lt, nu_lt, aw_e, nw_e, au_s, au_n, nu_s, nu_n, au_au, nu_nu, au_nu]; omega)) (by first | omega | (simp (decide := true) only [au_1, nu_2, au_lt, nu_lt, aw_e, nw_e, au_s, au_n, nu_s, nu_n, au_au, nu_nu, au_nu]; omega)) ?_
  refine w_ist4 (pc' := 44) dX1_grow_42 rfl rfl ?_
  refine w_iconst (pc' := 45) dX1_grow_44 rfl (by decide) ?_
  refine w_ist5 (pc' := 47) dX1_grow_45 rfl rfl ?_
  -- at 47: .iload 5
  try simp (decide := true) only [au_1, nu_2, au_lt, nu_lt, aw_e, nw_e, au_s, au_n, nu_s, nu_n, au_au, nu_nu, au_nu]
  refine w_ms (τ := au (au (au σ 30 (σ.2 30)) 31 (σ.2 31)) 32 (σ.2 32)) (by rw [au_id, au_id, au_id]) ?_
  refine up (T := fun i => ∀ (f g h : Int → Int) (x6 x7 : Option XV), rep 0 i (gp0 σ p) f g h → tvW mX1_grow (d + 4) K 47 [some (xR mR), some (xI p), some (xI r), some (xI n), some (xI (σ.2 11 p)), some (xI i), x6, x7, none, none, none] [] (ov (au (au (au σ 30 f) 31 g) 32 h) G0) bc bs) (σ.2 11 p) hM.1 (fun f g h x6 x7 hrep => ?_) (fun i i0 i1 ih f g h x6 x7 hrep => ?_) _ _ _ _ _ (fun i a b => by omega)
  · refine w_iload (pc' := 49) dX1_grow_47 rfl rfl ?_
    refine w_iload (pc' := 51) dX1_grow_49 rfl rfl ?_
    -- at 51: .if_icmp .ge 93
    try simp (decide := true) only [au_1, nu_2, au_lt, nu_lt, aw_e, nw_e, au_s, au_n, nu_s, nu_n, au_au, nu_nu, au_nu]
    refine w_icmp_ge (pc' := 54) (tgt := 144) dX1_grow_51 rfl rfl (fun h_ => ?_) (fun h_ => False.elim (by first | omega | (simp (decide := true) only [au_1, nu_2, au_lt, nu_lt, aw_e, nw_e, au_s, au_n, nu_s, nu_n, au_au, nu_nu, au_nu] at h_; omega)))
    refine w_iconst (pc' := 145) dX1_grow_144 rfl (by decide) ?_
    refine w_ist5 (pc' := 147) dX1_grow_145 rfl rfl ?_
    refine w_iconst (pc' := 148) dX1_grow_147 rfl (by decide) ?_
    refine w_ist6 (pc' := 150) dX1_grow_148 rfl rfl ?_
    -- at 150: .iload 6
    try simp (decide := true) only [au_1, nu_2, au_lt, nu_lt, aw_e, nw_e, au_s, au_n, nu_s, nu_n, au_au, nu_nu, au_nu]
    refine w_ms (τ := (nu (nu (au (au (au σ 30 (f)) 31 (g)) 32 (h)) 18 ((σ.1 18))) 19 ((σ.1 19)))) ?_ ?_
    · refine Prod.ext (funext fun k => ?_) rfl
      show σ.1 k = if k = 19 then σ.1 19 else if k = 18 then σ.1 18 else σ.1 k
      split
      · rename_i e; rw [e]
      · split
        · rename_i e; rw [e]
        · rfl
    exact steps 0 0 f g h _ _ _ _ _ _ (by omega) (Or.inl rfl) (fun j q => by omega) hM hg0 hrep
  · obtain ⟨r1, r2⟩ := (hP.2 p hp.1 hp.2).2 i i0 i1
    obtain ⟨⟨l0, l1⟩, ⟨o0, o1⟩, -⟩ := hR.2 _ r1 r2
    refine w_iload (pc' := 49) dX1_grow_47 rfl rfl ?_
    refine w_iload (pc' := 51) dX1_grow_49 rfl rfl ?_
    -- at 51: .if_icmp .ge 93
    try simp (decide := true) only [au_1, nu_2, au_lt, nu_lt, aw_e, nw_e, au_s, au_n, nu_s, nu_n, au_au, nu_nu, au_nu]
    refine w_icmp_ge (pc' := 54) (tgt := 144) dX1_grow_51 rfl rfl (fun h_ => False.elim (by first | omega | (simp (decide := true) only [au_1, nu_2, au_lt, nu_lt, aw_e, nw_e, au_s, au_n, nu_s, nu_n, au_au, nu_nu, au_nu] at h_; omega))) (fun h_ => ?_)
    refine w_aload_n (pc' := 55) dX1_grow_54 rfl rfl ?_
    refine w_iload_n (pc' := 56) dX1_grow_55 rfl rfl ?_
    refine w_iload (pc' := 58) dX1_grow_56 rfl rfl ?_
    -- at 58: .invokevirtual 175
    try simp (decide := true) only [au_1, nu_2, au_lt, nu_lt, aw_e, nw_e, au_s, au_n, nu_s, nu_n, au_au, nu_nu, au_nu]
    refine w_callV2 (pc' := 61) (mc := 0) (ms := 0) dX1_grow_58 rfl tX1_rowOf q1302 rfl rfl qs44 q1300 ov_o rfl (Nat.le_of_ble_eq_true rfl) (Nat.le_of_ble_eq_true rfl) ?_
    refine c_X1_rowOf ⟨hp.1, by omega⟩ ⟨i0, by omega⟩ ?_
    refine w_p1 ?_
    refine w_st (st' := [xI (rw_ σ p i)]) rfl ?_
    refine w_ist6 (pc' := 63) dX1_grow_61 rfl rfl ?_
    refine w_aload_n (pc' := 64) dX1_grow_63 rfl rfl ?_
    refine w_mga 31 (pc' := 67) dX1_grow_64 rfl fX1_76_1 rfl ?_
    refine w_iload (pc' := 69) dX1_grow_67 rfl rfl ?_
    refine w_aload_n (pc' := 70) dX1_grow_69 rfl rfl ?_
    refine w_mga 6 (pc' := 73) dX1_grow_70 rfl fX1_27_1 rfl ?_
    refine w_iload (pc' := 75) dX1_grow_73 rfl rfl ?_
    refine w_mild (pc' := 76) dX1_grow_75 rfl rfl (by first | omega | (simp (decide := true) only [au_1, nu_2, au_lt, nu_lt, aw_e, nw_e, au_s, au_n, nu_s, nu_n, au_au, nu_nu, au_nu]; omega)) (by first | omega | (simp (decide := true) only [au_1, nu_2, au_lt, nu_lt, aw_e, nw_e, au_s, au_n, nu_s, nu_n, au_au, nu_nu, au_nu]; omega)) ?_
    refine w_aui (pc' := 77) dX1_grow_76 rfl rfl (by first | omega | (simp (decide := true) only [au_1, nu_2, au_lt, nu_lt, aw_e, nw_e, au_s, au_n, nu_s, nu_n, au_au, nu_nu, au_nu]; omega)) (by first | omega | (simp (decide := true) only [au_1, nu_2, au_lt, nu_lt, aw_e, nw_e, au_s, au_n, nu_s, nu_n, au_au, nu_nu, au_nu]; omega)) ?_
    try simp (decide := true) only [au_1, nu_2, au_lt, nu_lt, aw_e, nw_e, au_s, au_n, nu_s, nu_n, au_au, nu_nu, au_nu]
    refine w_aload_n (pc' := 78) dX1_grow_77 rfl rfl ?_
    refine w_mga 32 (pc' := 81) dX1_grow_78 rfl fX1_79_1 rfl ?_
    refine w_iload (pc' := 83) dX1_grow_81 rfl rfl ?_
    refine w_aload_n (pc' := 84) dX1_grow_83 rfl rfl ?_
    refine w_mga 7 (pc' := 87) dX1_grow_84 rfl fX1_30_1 rfl ?_
    refine w_iload (pc' := 89) dX1_grow_87 rfl rfl ?_
    refine w_mild (pc' := 90) dX1_grow_89 rfl rfl (by first | omega | (simp (decide := true) only [au_1, nu_2, au_lt, nu_lt, aw_e, nw_e, au_s, au_n, nu_s, nu_n, au_au, nu_nu, au_nu]; omega)) (by first | omega | (simp (decide := true) only [au_1, nu_2, au_lt, nu_lt, aw_e, nw_e, au_s, au_n, nu_s, nu_n, au_au, nu_nu, au_nu]; omega)) ?_
    refine w_aui (pc' := 91) dX1_grow_90 rfl rfl (by first | omega | (simp (decide := true) only [au_1, nu_2, au_lt, nu_lt, aw_e, nw_e, au_s, au_n, nu_s, nu_n, au_au, nu_nu, au_nu]; omega)) (by first | omega | (simp (decide := true) only [au_1, nu_2, au_lt, nu_lt, aw_e, nw_e, au_s, au_n, nu_s, nu_n, au_au, nu_nu, au_nu]; omega)) ?_
    try simp (decide := true) only [au_1, nu_2, au_lt, nu_lt, aw_e, nw_e, au_s, au_n, nu_s, nu_n, au_au, nu_nu, au_nu]
    refine w_iconst (pc' := 92) dX1_grow_91 rfl (by decide) ?_
    refine w_ist7 (pc' := 94) dX1_grow_92 rfl rfl ?_
    -- at 94: .iload 7
    try simp (decide := true) only [au_1, nu_2, au_lt, nu_lt, aw_e, nw_e, au_s, au_n, nu_s, nu_n, au_au, nu_nu, au_nu]
    have kloop : ∀ k, 0 ≤ k → k ≤ σ.2 6 (rw_ σ p i) → ∀ (f : Int → Int), rep 0 i (gp0 σ p) f (iset g i (σ.2 6 (rw_ σ p i))) (iset h i (σ.2 7 (rw_ σ p i))) → (∀ k', 0 ≤ k' → k' < k → f (60 * i + k') = σ.2 8 (60 * rw_ σ p i + k')) → tvW mX1_grow (d + 4) K 94 [some (xR mR), some (xI p), some (xI r), some (xI n), some (xI (σ.2 11 p)), some (xI i), some (xI (rw_ σ p i)), some (xI k), none, none, none] [] (ov (au (au (au σ 30 f) 31 (iset g i (σ.2 6 (rw_ σ p i)))) 32 (iset h i (σ.2 7 (rw_ σ p i)))) G0) bc bs := by
      intro k k0 k1
      revert k0
      refine up (T := fun k => 0 ≤ k → ∀ (f : Int → Int), rep 0 i (gp0 σ p) f (iset g i (σ.2 6 (rw_ σ p i))) (iset h i (σ.2 7 (rw_ σ p i))) → (∀ k', 0 ≤ k' → k' < k → f (60 * i + k') = σ.2 8 (60 * rw_ σ p i + k')) → tvW mX1_grow (d + 4) K 94 [some (xR mR), some (xI p), some (xI r), some (xI n), some (xI (σ.2 11 p)), some (xI i), some (xI (rw_ σ p i)), some (xI k), none, none, none] [] (ov (au (au (au σ 30 f) 31 (iset g i (σ.2 6 (rw_ σ p i)))) 32 (iset h i (σ.2 7 (rw_ σ p i)))) G0) bc bs) (a := k) (σ.2 6 (rw_ σ p i)) k1 (fun k0 f hrep hk => ?_) (fun k k0' k1 ihk k0 f hrep hk => ?_)
      · refine w_iload (pc' := 96) dX1_grow_94 rfl rfl ?_
        refine w_aload_n (pc' := 97) dX1_grow_96 rfl rfl ?_
        refine w_mga 6 (pc' := 100) dX1_grow_97 rfl fX1_27_1 rfl ?_
        refine w_iload (pc' := 102) dX1_grow_100 rfl rfl ?_
        refine w_mild (pc' := 103) dX1_grow_102 rfl rfl (by first | omega | (simp (decide := true) only [au_1, nu_2, au_lt, nu_lt, aw_e, nw_e, au_s, au_n, nu_s, nu_n, au_au, nu_nu, au_nu]; omega)) (by first | omega | (simp (decide := true) only [au_1, nu_2, au_lt, nu_lt, aw_e, nw_e, au_s, au_n, nu_s, nu_n, au_au, nu_nu, au_nu]; omega)) ?_
        -- at 103: .if_icmp .ge 35
        try simp (decide := true) only [au_1, nu_2, au_lt, nu_lt, aw_e, nw_e, au_s, au_n, nu_s, nu_n, au_au, nu_nu, au_nu]
        refine w_icmp_ge (pc' := 106) (tgt := 138) dX1_grow_103 rfl rfl (fun h_ => ?_) (fun h_ => False.elim (by first | omega | (simp (decide := true) only [au_1, nu_2, au_lt, nu_lt, aw_e, nw_e, au_s, au_n, nu_s, nu_n, au_au, nu_nu, au_nu] at h_; omega)))
        refine w_inc5 (pc' := 141) dX1_grow_138 rfl rfl ⟨by first | omega | (simp (decide := true) only [au_1, nu_2, au_lt, nu_lt, aw_e, nw_e, au_s, au_n, nu_s, nu_n, au_au, nu_nu, au_nu]; omega), by first | omega | (simp (decide := true) only [au_1, nu_2, au_lt, nu_lt, aw_e, nw_e, au_s, au_n, nu_s, nu_n, au_au, nu_nu, au_nu]; omega)⟩ ?_
        refine w_goto (tgt := 47) dX1_grow_141 rfl ?_
        -- at 47: .iload 5
        try simp (decide := true) only [au_1, nu_2, au_lt, nu_lt, aw_e, nw_e, au_s, au_n, nu_s, nu_n, au_au, nu_nu, au_nu]
        refine ih _ _ _ _ _ (fun i' q0 q1 => ?_)
        by_cases e : i' = i
        · subst e
          refine ⟨?_, ?_, fun k k0 k1 => ?_⟩
          · rw [show (60 * 0 + i' : Int) = i' by omega]; exact iset_s
          · rw [show (60 * 0 + i' : Int) = i' by omega]; exact iset_s
          · rw [show (60 * (60 * 0 + i') + k : Int) = 60 * i' + k by omega]; exact hk k k0 k1
        · exact hrep i' q0 (by omega)
      · refine w_iload (pc' := 96) dX1_grow_94 rfl rfl ?_
        refine w_aload_n (pc' := 97) dX1_grow_96 rfl rfl ?_
        refine w_mga 6 (pc' := 100) dX1_grow_97 rfl fX1_27_1 rfl ?_
        refine w_iload (pc' := 102) dX1_grow_100 rfl rfl ?_
        refine w_mild (pc' := 103) dX1_grow_102 rfl rfl (by first | omega | (simp (decide := true) only [au_1, nu_2, au_lt, nu_lt, aw_e, nw_e, au_s, au_n, nu_s, nu_n, au_au, nu_nu, au_nu]; omega)) (by first | omega | (simp (decide := true) only [au_1, nu_2, au_lt, nu_lt, aw_e, nw_e, au_s, au_n, nu_s, nu_n, au_au, nu_nu, au_nu]; omega)) ?_
        -- at 103: .if_icmp .ge 35
        try simp (decide := true) only [au_1, nu_2, au_lt, nu_lt, aw_e, nw_e, au_s, au_n, nu_s, nu_n, au_au, nu_nu, au_nu]
        refine w_icmp_ge (pc' := 106) (tgt := 138) dX1_grow_103 rfl rfl (fun h_ => False.elim (by first | omega | (simp (decide := true) only [au_1, nu_2, au_lt, nu_lt, aw_e, nw_e, au_s, au_n, nu_s, nu_n, au_au, nu_nu, au_nu] at h_; omega))) (fun h_ => ?_)
        refine w_aload_n (pc' := 107) dX1_grow_106 rfl rfl ?_
        refine w_mga 30 (pc' := 110) dX1_grow_107 rfl fX1_73_1 rfl ?_
        refine w_bipush (pc' := 112) dX1_grow_110 rfl (by decide +kernel) (by decide) ?_
        refine w_iload (pc' := 114) dX1_grow_112 rfl rfl ?_
        refine w_imul (pc' := 115) dX1_grow_114 rfl ⟨by first | omega | (simp (decide := true) only [au_1, nu_2, au_lt, nu_lt, aw_e, nw_e, au_s, au_n, nu_s, nu_n, au_au, nu_nu, au_nu]; omega), by first | omega | (simp (decide := true) only [au_1, nu_2, au_lt, nu_lt, aw_e, nw_e, au_s, au_n, nu_s, nu_n, au_au, nu_nu, au_nu]; omega)⟩ ?_
        refine w_iload (pc' := 117) dX1_grow_115 rfl rfl ?_
        refine w_iadd (pc' := 118) dX1_grow_117 rfl ⟨by first | omega | (simp (decide := true) only [au_1, nu_2, au_lt, nu_lt, aw_e, nw_e, au_s, au_n, nu_s, nu_n, au_au, nu_nu, au_nu]; omega), by first | omega | (simp (decide := true) only [au_1, nu_2, au_lt, nu_lt, aw_e, nw_e, au_s, au_n, nu_s, nu_n, au_au, nu_nu, au_nu]; omega)⟩ ?_
        refine w_aload_n (pc' := 119) dX1_grow_118 rfl rfl ?_
        refine w_mga 8 (pc' := 122) dX1_grow_119 rfl fX1_34_1 rfl ?_
        refine w_bipush (pc' := 124) dX1_grow_122 rfl (by decide +kernel) (by decide) ?_
        refine w_iload (pc' := 126) dX1_grow_124 rfl rfl ?_
        refine w_imul (pc' := 127) dX1_grow_126 rfl ⟨by first | omega | (simp (decide := true) only [au_1, nu_2, au_lt, nu_lt, aw_e, nw_e, au_s, au_n, nu_s, nu_n, au_au, nu_nu, au_nu]; omega), by first | omega | (simp (decide := true) only [au_1, nu_2, au_lt, nu_lt, aw_e, nw_e, au_s, au_n, nu_s, nu_n, au_au, nu_nu, au_nu]; omega)⟩ ?_
        refine w_iload (pc' := 129) dX1_grow_127 rfl rfl ?_
        refine w_iadd (pc' := 130) dX1_grow_129 rfl ⟨by first | omega | (simp (decide := true) only [au_1, nu_2, au_lt, nu_lt, aw_e, nw_e, au_s, au_n, nu_s, nu_n, au_au, nu_nu, au_nu]; omega), by first | omega | (simp (decide := true) only [au_1, nu_2, au_lt, nu_lt, aw_e, nw_e, au_s, au_n, nu_s, nu_n, au_au, nu_nu, au_nu]; omega)⟩ ?_
        refine w_mild (pc' := 131) dX1_grow_130 rfl rfl (by first | omega | (simp (decide := true) only [au_1, nu_2, au_lt, nu_lt, aw_e, nw_e, au_s, au_n, nu_s, nu_n, au_au, nu_nu, au_nu]; omega)) (by first | omega | (simp (decide := true) only [au_1, nu_2, au_lt, nu_lt, aw_e, nw_e, au_s, au_n, nu_s, nu_n, au_au, nu_nu, au_nu]; omega)) ?_
        refine w_aui (pc' := 132) dX1_grow_131 rfl rfl (by first | omega | (simp (decide := true) only [au_1, nu_2, au_lt, nu_lt, aw_e, nw_e, au_s, au_n, nu_s, nu_n, au_au, nu_nu, au_nu]; omega)) (by first | omega | (simp (decide := true) only [au_1, nu_2, au_lt, nu_lt, aw_e, nw_e, au_s, au_n, nu_s, nu_n, au_au, nu_nu, au_nu]; omega)) ?_
        try simp (decide := true) only [au_1, nu_2, au_lt, nu_lt, aw_e, nw_e, au_s, au_n, nu_s, nu_n, au_au, nu_nu, au_nu]
        refine w_inc7 (pc' := 135) dX1_grow_132 rfl rfl ⟨by first | omega | (simp (decide := true) only [au_1, nu_2, au_lt, nu_lt, aw_e, nw_e, au_s, au_n, nu_s, nu_n, au_au, nu_nu, au_nu]; omega), by first | omega | (simp (decide := true) only [au_1, nu_2, au_lt, nu_lt, aw_e, nw_e, au_s, au_n, nu_s, nu_n, au_au, nu_nu, au_nu]; omega)⟩ ?_
        refine w_goto (tgt := 94) dX1_grow_135 rfl ?_
        -- at 94: .iload 7
        try simp (decide := true) only [au_1, nu_2, au_lt, nu_lt, aw_e, nw_e, au_s, au_n, nu_s, nu_n, au_au, nu_nu, au_nu]
        refine ihk (by omega) _ (fun i' q0 q1 => ?_) (fun k' q0 q1 => ?_)
        · obtain ⟨z1, z2, z3⟩ := hrep i' q0 q1
          refine ⟨z1, z2, fun k' k0' k1' => ?_⟩
          have z4 := (hg0 i' q0 (by omega)).1
          rw [iset_n (by omega)]
          exact z3 k' k0' k1'
        · by_cases e : k' = k
          · rw [e]; exact iset_s
          · rw [iset_n (by omega)]; exact hk k' q0 (by omega)
    refine kloop 0 (by omega) l0 f (fun i' q0 q1 => ?_) (fun k' a b => by omega)
    obtain ⟨z1, z2, z3⟩ := hrep i' q0 q1
    refine ⟨?_, ?_, z3⟩
    · rw [iset_n (by omega)]; exact z1
    · rw [iset_n (by omega)]; exact z2
end
