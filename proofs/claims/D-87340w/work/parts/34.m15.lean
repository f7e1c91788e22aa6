set_option maxRecDepth 10000
/-! a search begins; its places -/
def inF (σ : MS) (f k : Int) : Prop := 0 ≤ k ∧ k / 8 < σ.2 35 f ∧ k % 8 < σ.2 36 f
def cut (σ : MS) (f : Int) (b : Int → Int) : Int → Int := fun k => if 0 ≤ k ∧ k / 8 < σ.2 35 f ∧ k % 8 < σ.2 36 f then b k else 0
def cutl (σ : MS) (l : Int → Int) : Int → Int := fun k => if 0 ≤ k ∧ k < σ.1 5 then l k else 0
theorem cut_in {σ : MS} {f k : Int} {b : Int → Int} (h : inF σ f k) : cut σ f b k = b k := if_pos h
theorem cutl_in {σ : MS} {k : Int} {l : Int → Int} (h : 0 ≤ k ∧ k < σ.1 5) : cutl σ l k = l k := if_pos h
theorem lyB_cut {σ : MS} {f i j : Int} {b : Int → Int} (hC : σ.2 36 f ≤ 8) : lyB σ f (cut σ f b) i j = lyB σ f b i j := by
  unfold lyB
  split
  · rename_i h
    rw [cut_in (show inF σ f (8 * i + j) from ⟨by omega, by omega, by omega⟩)]
  · rfl
theorem mlB_cut {σ : MS} {f pl c : Int} {b : Int → Int} (hC : σ.2 36 f ≤ 8) : mlB σ f (cut σ f b) pl c ↔ mlB σ f b pl c := by
  unfold mlB; rw [lyB_cut hC, lyB_cut hC, lyB_cut hC, lyB_cut hC]
theorem cdB_cut {σ : MS} {f pl n : Int} {b l : Int → Int} (hC : σ.2 36 f ≤ 8) (hn : 0 ≤ n ∧ n < 8 * σ.1 5) : cdB σ f (cut σ f b) (cutl σ l) pl n ↔ cdB σ f b l pl n := by
  unfold cdB; rw [mlB_cut hC, cutl_in (show 0 ≤ n / 8 ∧ n / 8 < σ.1 5 by omega)]
theorem nfB_cut {σ : MS} {f pl : Int} {b l : Int → Int} (hC : σ.2 36 f ≤ 8) : nfB σ f (cut σ f b) (cutl σ l) pl = nfB σ f b l pl := by
  unfold nfB
  exact sm_c (fun n n0 n1 => b1_c (cdB_cut hC ⟨n0, n1⟩))
theorem cut_iset {σ : MS} {f k v : Int} {b : Int → Int} (h : inF σ f k) : cut σ f (iset b k v) = iset (cut σ f b) k v := by
  funext z
  unfold cut iset
  by_cases e : z = k
  · rw [if_pos e, if_pos e, e]; exact if_pos h
  · rw [if_neg e, if_neg e]
theorem cutl_iset {σ : MS} {k v : Int} {l : Int → Int} (h : 0 ≤ k ∧ k < σ.1 5) : cutl σ (iset l k v) = iset (cutl σ l) k v := by
  funext z
  unfold cutl iset
  by_cases e : z = k
  · rw [if_pos e, if_pos e, e]; exact if_pos h
  · rw [if_neg e, if_neg e]
def gdB (σ : MS) (f : Int) : Prop := ∀ k, 0 ≤ k → k < 64 → k / 8 < σ.2 35 f → k % 8 < σ.2 36 f → 0 < σ.2 37 (64 * f + k) → mlB σ f (fun _ => 0) k (σ.2 37 (64 * f + k))
def OP (σ : MS) (f N : Int) (g : Int → Int) : Prop := (0 ≤ N ∧ N ≤ 64) ∧ (∀ t, 0 ≤ t → t < N → opB σ f (g t)) ∧ (∀ t t', 0 ≤ t → t < t' → t' < N → g t < g t') ∧ ∀ k, opB σ f k → ∃ t, 0 ≤ t ∧ t < N ∧ g t = k
/-- what lies is taken off a floor -/
def zfl (σ : MS) (f : Int) : Int → Int := fun z => if 0 ≤ z - 64 * f ∧ (z - 64 * f) / 8 < σ.2 35 f ∧ (z - 64 * f) % 8 < σ.2 36 f then 0 else σ.2 38 z
def nxP (σ : MS) (f : Int) (b l : Int → Int) (pl : Int) : Prop := opB σ f pl ∧ b pl = 0 ∧ ∀ k, opB σ f k → b k = 0 → nfB σ f b l pl ≤ nfB σ f b l k ∧ (k < pl → nfB σ f b l pl < nfB σ f b l k)
noncomputable def npl (σ : MS) (f : Int) (b l : Int → Int) : Int := fi (fun k => nxP σ f b l k) 64
theorem npl_hit {σ : MS} {f pl : Int} {b l : Int → Int} (h0 : 0 ≤ pl) (h1 : pl < 64) (h : nxP σ f b l pl) : npl σ f b l = pl := by
  refine fi_hit h0 h1 h (fun j j0 j1 q => ?_)
  have a1 := h.2.2 j q.1 q.2.1
  have a2 := q.2.2 pl h.1 h.2.1
  omega
theorem npl_no {σ : MS} {f : Int} {b l : Int → Int} (h : ∀ k, opB σ f k → b k ≠ 0) : npl σ f b l = -1 := fi_no (fun j _ _ q => h j q.1 q.2.1)
noncomputable def shF (σ : MS) (f : Int) (fl b : Int → Int) : Int → Int := fun z => ic (opB σ f (z - 64 * f)) (b (z - 64 * f)) (fl z)
def lcG (s kc : Int → Int) : Nat → Option Int
  | 0 => none
  | k + 1 => if s k = 0 then lcG s kc k else match lcG s kc k with
    | none => some (kc k)
    | some v => if v ≤ kc k then some v else some (kc k)
def lcs (σ : MS) (f : Int) (n : Nat) : Option Int := lcG (fun k => σ.2 39 (40 * f + k)) (σ.2 2) n
theorem lcs_s {σ : MS} {f : Int} {k : Nat} : lcs σ f (k + 1) = if σ.2 39 (40 * f + k) = 0 then lcs σ f k else match lcs σ f k with
    | none => some (σ.2 2 k)
    | some v => if v ≤ σ.2 2 k then some v else some (σ.2 2 k) := rfl
section
variable {d : Nat} {K : Option XV → GH → Prop} {G0 G : GH} {bc bs : Nat} {σ : MS} {M : tv_M} {pc pc' : Nat} {L : List (Option XV)} {st : List XV}
theorem c_X1_starts {f : Int} (hK : kok σ) (hF : fo1 σ) (hf : 0 ≤ f ∧ f < σ.1 40)
    (h : ∀ (v : Int) (b l g : Int → Int) (N : Int), (v = 1 ∧ gdB σ f ∨ v = 0 ∧ ¬ gdB σ f) → cut σ f b = (fun _ => 0) → cutl σ l = cutl σ (fun k => σ.2 39 (40 * f + k)) → OP σ f N g → K (some (xI v)) (ov (nu (nu (au (au (au (au σ 38 ((zfl σ f))) 44 (b)) 45 (l)) 46 (g)) 42 f) 43 (N)) G0)) :
    tvW mX1_starts (d + 3) K 0 [some (xR mR), some (xI f), none, none, none, none, none] [] (ov σ G0) bc bs := by
  have hK1 := hK.1
  have hF1 := hF.1
  obtain ⟨hR, hC, ht, hS⟩ := hF.2 f hf.1 hf.2
  -- the last loop: whether what is given fits
  have tail : ∀ (b l g : Int → Int) (N : Int) (x3 x4 x5 x6 : Option XV), cut σ f b = (fun _ => 0) → cutl σ l = cutl σ (fun k => σ.2 39 (40 * f + k)) → OP σ f N g → tvW mX1_starts (d + 3) K 153 [some (xR mR), some (xI f), some (xI 1), x3, x4, x5, x6] [] (ov (nu (nu (au (au (au (au σ 38 ((zfl σ f))) 44 (b)) 45 (l)) 46 (g)) 42 f) 43 (N)) G0) bc bs := by
    intro b l g N x3 x4 x5 x6 hb hl hg
    have bk : bok (nu (nu (au (au (au (au σ 38 ((zfl σ f))) 44 (b)) 45 (l)) 46 (g)) 42 f) 43 (N)) f b := by
      intro k k0 k1 k2
      have : cut σ f b k = 0 := by rw [hb]
      rw [cut_in (show inF σ f k from ⟨k0, k1, k2⟩)] at this
      show 0 ≤ b k ∧ b k ≤ 8 * σ.1 5
      omega
    have ml : ∀ k c, mlB (nu (nu (au (au (au (au σ 38 ((zfl σ f))) 44 (b)) 45 (l)) 46 (g)) 42 f) 43 (N)) f b k c ↔ mlB σ f (fun _ => 0) k c := by
      intro k c
      rw [← hb]
      exact (mlB_cut hC.2).symm
    refine w_iconst (pc' := 154) dX1_starts_153 rfl (by decide) ?_
    refine w_ist3 (pc' := 155) dX1_starts_154 rfl rfl ?_
    -- at 155: .iload_n 3
    try simp (decide := true) only [au_1, nu_2, au_lt, nu_lt, aw_e, nw_e, au_s, au_n, nu_s, nu_n, au_au, nu_nu, au_nu]
    refine up (T := fun k => ∀ v, (v = 1 ∧ (∀ k', 0 ≤ k' → k' < k → k' / 8 < σ.2 35 f → k' % 8 < σ.2 36 f → 0 < σ.2 37 (64 * f + k') → mlB σ f (fun _ => 0) k' (σ.2 37 (64 * f + k'))) ∨ v = 0 ∧ ¬ gdB σ f) → tvW mX1_starts (d + 3) K 155 [some (xR mR), some (xI f), some (xI v), some (xI k), x4, x5, x6] [] (ov (nu (nu (au (au (au (au σ 38 ((zfl σ f))) 44 (b)) 45 (l)) 46 (g)) 42 f) 43 (N)) G0) bc bs) (a := 0) 64 (by omega) (fun v hv => ?_) (fun k k0 k1 ih v hv => ?_) 1 (Or.inl ⟨rfl, fun k' a b => by omega⟩)
    · refine w_iload_n (pc' := 156) dX1_starts_155 rfl rfl ?_
      refine w_bipush (pc' := 158) dX1_starts_156 rfl (by decide +kernel) (by decide) ?_
      -- at 158: .if_icmp .ge 78
      try simp (decide := true) only [au_1, nu_2, au_lt, nu_lt, aw_e, nw_e, au_s, au_n, nu_s, nu_n, au_au, nu_nu, au_nu]
      refine w_icmp_ge (pc' := 161) (tgt := 236) dX1_starts_158 rfl rfl (fun h_ => ?_) (fun h_ => False.elim (by first | omega | (simp (decide := true) only [au_1, nu_2, au_lt, nu_lt, aw_e, nw_e, au_s, au_n, nu_s, nu_n, au_au, nu_nu, au_nu] at h_; omega)))
      refine w_iload_n (pc' := 237) dX1_starts_236 rfl rfl ?_
      -- at 237: .ireturn
      try simp (decide := true) only [au_1, nu_2, au_lt, nu_lt, aw_e, nw_e, au_s, au_n, nu_s, nu_n, au_au, nu_nu, au_nu]
      refine w_zreturn dX1_starts_237 rfl (by rcases hv with ⟨q, -⟩ | ⟨q, -⟩ <;> omega) ?_
      refine h v b l g N ?_ hb hl hg
      rcases hv with ⟨q, z⟩ | q
      · exact Or.inl ⟨q, fun k k0 k1 => z k k0 k1⟩
      · exact Or.inr q
    · have skip : ¬ (k / 8 < σ.2 35 f ∧ k % 8 < σ.2 36 f ∧ 0 < σ.2 37 (64 * f + k)) → tvW mX1_starts (d + 3) K 230 [some (xR mR), some (xI f), some (xI v), some (xI k), x4, x5, x6] [] (ov (nu (nu (au (au (au (au σ 38 ((zfl σ f))) 44 (b)) 45 (l)) 46 (g)) 42 f) 43 (N)) G0) bc bs := by
        intro q
        refine w_inc3 (pc' := 233) dX1_starts_230 rfl rfl ⟨by first | omega | (simp (decide := true) only [au_1, nu_2, au_lt, nu_lt, aw_e, nw_e, au_s, au_n, nu_s, nu_n, au_au, nu_nu, au_nu]; omega), by first | omega | (simp (decide := true) only [au_1, nu_2, au_lt, nu_lt, aw_e, nw_e, au_s, au_n, nu_s, nu_n, au_au, nu_nu, au_nu]; omega)⟩ ?_
        refine w_goto (tgt := 155) dX1_starts_233 rfl ?_
        -- at 155: .iload_n 3
        try simp (decide := true) only [au_1, nu_2, au_lt, nu_lt, aw_e, nw_e, au_s, au_n, nu_s, nu_n, au_au, nu_nu, au_nu]
        refine ih v ?_
        rcases hv with ⟨e, z⟩ | z
        · refine Or.inl ⟨e, fun k' q0 q1 q2 q3 q4 => ?_⟩
          by_cases e2 : k' = k
          · exact absurd ⟨e2 ▸ q2, e2 ▸ q3, e2 ▸ q4⟩ q
          · exact z k' q0 (by omega) q2 q3 q4
        · exact Or.inr z
      refine w_iload_n (pc' := 156) dX1_starts_155 rfl rfl ?_
      refine w_bipush (pc' := 158) dX1_starts_156 rfl (by decide +kernel) (by decide) ?_
      -- at 158: .if_icmp .ge 78
      try simp (decide := true) only [au_1, nu_2, au_lt, nu_lt, aw_e, nw_e, au_s, au_n, nu_s, nu_n, au_au, nu_nu, au_nu]
      refine w_icmp_ge (pc' := 161) (tgt := 236) dX1_starts_158 rfl rfl (fun h_ => False.elim (by first | omega | (simp (decide := true) only [au_1, nu_2, au_lt, nu_lt, aw_e, nw_e, au_s, au_n, nu_s, nu_n, au_au, nu_nu, au_nu] at h_; omega))) (fun h_ => ?_)
      refine w_iload_n (pc' := 162) dX1_starts_161 rfl rfl ?_
      refine w_bipush (pc' := 164) dX1_starts_162 rfl (by decide +kernel) (by decide) ?_
      refine w_idiv (pc' := 165) dX1_starts_164 rfl (by first | omega | (simp (decide := true) only [au_1, nu_2, au_lt, nu_lt, aw_e, nw_e, au_s, au_n, nu_s, nu_n, au_au, nu_nu, au_nu]; omega)) (by first | omega | (simp (decide := true) only [au_1, nu_2, au_lt, nu_lt, aw_e, nw_e, au_s, au_n, nu_s, nu_n, au_au, nu_nu, au_nu]; omega)) ?_
      refine w_aload_n (pc' := 166) dX1_starts_165 rfl rfl ?_
      refine w_mga 35 (pc' := 169) dX1_starts_166 rfl fX1_88_1 rfl ?_
      refine w_iload_n (pc' := 170) dX1_starts_169 rfl rfl ?_
      refine w_mild (pc' := 171) dX1_starts_170 rfl rfl (by first | omega | (simp (decide := true) only [au_1, nu_2, au_lt, nu_lt, aw_e, nw_e, au_s, au_n, nu_s, nu_n, au_au, nu_nu, au_nu]; omega)) (by first | omega | (simp (decide := true) only [au_1, nu_2, au_lt, nu_lt, aw_e, nw_e, au_s, au_n, nu_s, nu_n, au_au, nu_nu, au_nu]; omega)) ?_
      -- at 171: .if_icmp .ge 59
      try simp (decide := true) only [au_1, nu_2, au_lt, nu_lt, aw_e, nw_e, au_s, au_n, nu_s, nu_n, au_au, nu_nu, au_nu]
      refine w_icmp_ge (pc' := 174) (tgt := 230) dX1_starts_171 rfl rfl (fun g1 => ?_) (fun g1 => ?_)
      · exact skip (by omega)
      · refine w_iload_n (pc' := 175) dX1_starts_174 rfl rfl ?_
        refine w_bipush (pc' := 177) dX1_starts_175 rfl (by decide +kernel) (by decide) ?_
        refine w_irem (pc' := 178) dX1_starts_177 rfl (by first | omega | (simp (decide := true) only [au_1, nu_2, au_lt, nu_lt, aw_e, nw_e, au_s, au_n, nu_s, nu_n, au_au, nu_nu, au_nu]; omega)) (by first | omega | (simp (decide := true) only [au_1, nu_2, au_lt, nu_lt, aw_e, nw_e, au_s, au_n, nu_s, nu_n, au_au, nu_nu, au_nu]; omega)) ?_
        refine w_aload_n (pc' := 179) dX1_starts_178 rfl rfl ?_
        refine w_mga 36 (pc' := 182) dX1_starts_179 rfl fX1_91_1 rfl ?_
        refine w_iload_n (pc' := 183) dX1_starts_182 rfl rfl ?_
        refine w_mild (pc' := 184) dX1_starts_183 rfl rfl (by first | omega | (simp (decide := true) only [au_1, nu_2, au_lt, nu_lt, aw_e, nw_e, au_s, au_n, nu_s, nu_n, au_au, nu_nu, au_nu]; omega)) (by first | omega | (simp (decide := true) only [au_1, nu_2, au_lt, nu_lt, aw_e, nw_e, au_s, au_n, nu_s, nu_n, au_au, nu_nu, au_nu]; omega)) ?_
        -- at 184: .if_icmp .ge 46
        try simp (decide := true) only [au_1, nu_2, au_lt, nu_lt, aw_e, nw_e, au_s, au_n, nu_s, nu_n, au_au, nu_nu, au_nu]
        refine w_icmp_ge (pc' := 187) (tgt := 230) dX1_starts_184 rfl rfl (fun g2 => ?_) (fun g2 => ?_)
        · exact skip (by omega)
        · refine w_aload_n (pc' := 188) dX1_starts_187 rfl rfl ?_
          refine w_mga 37 (pc' := 191) dX1_starts_188 rfl fX1_94_1 rfl ?_
          refine w_bipush (pc' := 193) dX1_starts_191 rfl (by decide +kernel) (by decide) ?_
          refine w_iload_n (pc' := 194) dX1_starts_193 rfl rfl ?_
          refine w_imul (pc' := 195) dX1_starts_194 rfl ⟨by first | omega | (simp (decide := true) only [au_1, nu_2, au_lt, nu_lt, aw_e, nw_e, au_s, au_n, nu_s, nu_n, au_au, nu_nu, au_nu]; omega), by first | omega | (simp (decide := true) only [au_1, nu_2, au_lt, nu_lt, aw_e, nw_e, au_s, au_n, nu_s, nu_n, au_au, nu_nu, au_nu]; omega)⟩ ?_
          refine w_iload_n (pc' := 196) dX1_starts_195 rfl rfl ?_
          refine w_iadd (pc' := 197) dX1_starts_196 rfl ⟨by first | omega | (simp (decide := true) only [au_1, nu_2, au_lt, nu_lt, aw_e, nw_e, au_s, au_n, nu_s, nu_n, au_au, nu_nu, au_nu]; omega), by first | omega | (simp (decide := true) only [au_1, nu_2, au_lt, nu_lt, aw_e, nw_e, au_s, au_n, nu_s, nu_n, au_au, nu_nu, au_nu]; omega)⟩ ?_
          refine w_mild (pc' := 198) dX1_starts_197 rfl rfl (by first | omega | (simp (decide := true) only [au_1, nu_2, au_lt, nu_lt, aw_e, nw_e, au_s, au_n, nu_s, nu_n, au_au, nu_nu, au_nu]; omega)) (by first | omega | (simp (decide := true) only [au_1, nu_2, au_lt, nu_lt, aw_e, nw_e, au_s, au_n, nu_s, nu_n, au_au, nu_nu, au_nu]; omega)) ?_
          -- at 198: .ifCond .le 32
          try simp (decide := true) only [au_1, nu_2, au_lt, nu_lt, aw_e, nw_e, au_s, au_n, nu_s, nu_n, au_au, nu_nu, au_nu]
          refine w_if_le (pc' := 201) (tgt := 230) dX1_starts_198 rfl rfl (fun g3 => ?_) (fun g3 => ?_)
          · exact skip (by omega)
          · have hto := ht k k0 k1
            refine w_iload_n (pc' := 202) dX1_starts_201 rfl rfl ?_
            -- at 202: .ifCond .eq 26
            try simp (decide := true) only [au_1, nu_2, au_lt, nu_lt, aw_e, nw_e, au_s, au_n, nu_s, nu_n, au_au, nu_nu, au_nu]
            refine w_if_eq (pc' := 205) (tgt := 228) dX1_starts_202 rfl rfl (fun g4 => ?_) (fun g4 => ?_)
            · rcases hv with ⟨e, z⟩ | ⟨e, z⟩
              · omega
              · refine w_iconst (pc' := 229) dX1_starts_228 rfl (by decide) ?_
                refine w_ist2 (pc' := 230) dX1_starts_229 rfl rfl ?_
                refine w_inc3 (pc' := 233) dX1_starts_230 rfl rfl ⟨by first | omega | (simp (decide := true) only [au_1, nu_2, au_lt, nu_lt, aw_e, nw_e, au_s, au_n, nu_s, nu_n, au_au, nu_nu, au_nu]; omega), by first | omega | (simp (decide := true) only [au_1, nu_2, au_lt, nu_lt, aw_e, nw_e, au_s, au_n, nu_s, nu_n, au_au, nu_nu, au_nu]; omega)⟩ ?_
                refine w_goto (tgt := 155) dX1_starts_233 rfl ?_
                -- at 155: .iload_n 3
                try simp (decide := true) only [au_1, nu_2, au_lt, nu_lt, aw_e, nw_e, au_s, au_n, nu_s, nu_n, au_au, nu_nu, au_nu]
                exact ih 0 (Or.inr ⟨rfl, z⟩)
            · rcases hv with ⟨e, z⟩ | ⟨e, z⟩
              · refine w_aload_n (pc' := 206) dX1_starts_205 rfl rfl ?_
                refine w_iload_n (pc' := 207) dX1_starts_206 rfl rfl ?_
                refine w_aload_n (pc' := 208) dX1_starts_207 rfl rfl ?_
                refine w_mga 37 (pc' := 211) dX1_starts_208 rfl fX1_94_1 rfl ?_
                refine w_bipush (pc' := 213) dX1_starts_211 rfl (by decide +kernel) (by decide) ?_
                refine w_iload_n (pc' := 214) dX1_starts_213 rfl rfl ?_
                refine w_imul (pc' := 215) dX1_starts_214 rfl ⟨by first | omega | (simp (decide := true) only [au_1, nu_2, au_lt, nu_lt, aw_e, nw_e, au_s, au_n, nu_s, nu_n, au_au, nu_nu, au_nu]; omega), by first | omega | (simp (decide := true) only [au_1, nu_2, au_lt, nu_lt, aw_e, nw_e, au_s, au_n, nu_s, nu_n, au_au, nu_nu, au_nu]; omega)⟩ ?_
                refine w_iload_n (pc' := 216) dX1_starts_215 rfl rfl ?_
                refine w_iadd (pc' := 217) dX1_starts_216 rfl ⟨by first | omega | (simp (decide := true) only [au_1, nu_2, au_lt, nu_lt, aw_e, nw_e, au_s, au_n, nu_s, nu_n, au_au, nu_nu, au_nu]; omega), by first | omega | (simp (decide := true) only [au_1, nu_2, au_lt, nu_lt, aw_e, nw_e, au_s, au_n, nu_s, nu_n, au_au, nu_nu, au_nu]; omega)⟩ ?_
                refine w_mild (pc' := 218) dX1_starts_217 rfl rfl (by first | omega | (simp (decide := true) only [au_1, nu_2, au_lt, nu_lt, aw_e, nw_e, au_s, au_n, nu_s, nu_n, au_au, nu_nu, au_nu]; omega)) (by first | omega | (simp (decide := true) only [au_1, nu_2, au_lt, nu_lt, aw_e, nw_e, au_s, au_n, nu_s, nu_n, au_au, nu_nu, au_nu]; omega)) ?_
                -- at 218: .invokevirtual 300
                try simp (decide := true) only [au_1, nu_2, au_lt, nu_lt, aw_e, nw_e, au_s, au_n, nu_s, nu_n, au_au, nu_nu, au_nu]
                refine w_callV2 (pc' := 221) (mc := 0) (ms := 0) dX1_starts_218 rfl tX1_mayLie q1521 rfl rfl qs68 q1519 ov_o rfl (Nat.le_of_ble_eq_true rfl) (Nat.le_of_ble_eq_true rfl) ?_
                refine c_X1_mayLie (show kok _ from hK) (show fo1 _ from hF) (show 0 ≤ f ∧ f < σ.1 40 from hf) (show bok _ f b from bk) ⟨k0, k1⟩ (show isC (σ.1 5) _ from isC_of ⟨by omega, by omega⟩ hK1.2) (fun q => w_p1 ?_) (fun q => w_p1 ?_)
                · have q : mlB σ f (fun _ => 0) k (σ.2 37 (64 * f + k)) := (ml k _).mp q
                  refine w_if_eq (pc' := 224) (tgt := 228) dX1_starts_221 rfl rfl (fun h_ => False.elim (by first | omega | (simp (decide := true) only [au_1, nu_2, au_lt, nu_lt, aw_e, nw_e, au_s, au_n, nu_s, nu_n, au_au, nu_nu, au_nu] at h_; omega))) (fun h_ => ?_)
                  refine w_iconst (pc' := 225) dX1_starts_224 rfl (by decide) ?_
                  refine w_goto (tgt := 229) dX1_starts_225 rfl ?_
                  refine w_ist2 (pc' := 230) dX1_starts_229 rfl rfl ?_
                  refine w_inc3 (pc' := 233) dX1_starts_230 rfl rfl ⟨by first | omega | (simp (decide := true) only [au_1, nu_2, au_lt, nu_lt, aw_e, nw_e, au_s, au_n, nu_s, nu_n, au_au, nu_nu, au_nu]; omega), by first | omega | (simp (decide := true) only [au_1, nu_2, au_lt, nu_lt, aw_e, nw_e, au_s, au_n, nu_s, nu_n, au_au, nu_nu, au_nu]; omega)⟩ ?_
                  refine w_goto (tgt := 155) dX1_starts_233 rfl ?_
                  -- at 155: .iload_n 3
                  try simp (decide := true) only [au_1, nu_2, au_lt, nu_lt, aw_e, nw_e, au_s, au_n, nu_s, nu_n, au_au, nu_nu, au_nu]
                  refine ih 1 (Or.inl ⟨rfl, fun k' q0 q1 q2 q3 q4 => ?_⟩)
                  by_cases e2 : k' = k
                  · rw [e2]; exact q
                  · exact z k' q0 (by omega) q2 q3 q4
                · have q : ¬ mlB σ f (fun _ => 0) k (σ.2 37 (64 * f + k)) := fun w => q ((ml k _).mpr w)
                  refine w_if_eq (pc' := 224) (tgt := 228) dX1_starts_221 rfl rfl (fun h_ => ?_) (fun h_ => False.elim (by first | omega | (simp (decide := true) only [au_1, nu_2, au_lt, nu_lt, aw_e, nw_e, au_s, au_n, nu_s, nu_n, au_au, nu_nu, au_nu] at h_; omega)))
                  refine w_iconst (pc' := 229) dX1_starts_228 rfl (by decide) ?_
                  refine w_ist2 (pc' := 230) dX1_starts_229 rfl rfl ?_
                  refine w_inc3 (pc' := 233) dX1_starts_230 rfl rfl ⟨by first | omega | (simp (decide := true) only [au_1, nu_2, au_lt, nu_lt, aw_e, nw_e, au_s, au_n, nu_s, nu_n, au_au, nu_nu, au_nu]; omega), by first | omega | (simp (decide := true) only [au_1, nu_2, au_lt, nu_lt, aw_e, nw_e, au_s, au_n, nu_s, nu_n, au_au, nu_nu, au_nu]; omega)⟩ ?_
                  refine w_goto (tgt := 155) dX1_starts_233 rfl ?_
                  -- at 155: .iload_n 3
                  try simp (decide := true) only [au_1, nu_2, au_lt, nu_lt, aw_e, nw_e, au_s, au_n, nu_s, nu_n, au_au, nu_nu, au_nu]
                  exact ih 0 (Or.inr ⟨rfl, fun w => q (w k k0 k1 (by omega) (by omega) (by omega))⟩)
              · omega
  -- the places
  have rows : ∀ l, cutl σ l = cutl σ (fun k => σ.2 39 (40 * f + k)) → ∀ i, 0 ≤ i → i ≤ σ.2 35 f → (∀ (fl b g : Int → Int) (N : Int) (x4 x5 x6 : Option XV), (∀ z, fl z = if (0 ≤ (z - 64 * f) ∧ (z - 64 * f) % 8 < σ.2 36 f ∧ ((z - 64 * f) / 8 < (i) ∨ (z - 64 * f) / 8 = (i) ∧ (z - 64 * f) % 8 < (0))) then 0 else σ.2 38 z) → (∀ k, (0 ≤ (k) ∧ (k) % 8 < σ.2 36 f ∧ ((k) / 8 < (i) ∨ (k) / 8 = (i) ∧ (k) % 8 < (0))) → b k = 0) → (0 ≤ N ∧ N ≤ 8 * (i) + (0)) → (∀ t, 0 ≤ t → t < N → opB σ f (g t) ∧ (0 ≤ (g t) ∧ (g t) % 8 < σ.2 36 f ∧ ((g t) / 8 < (i) ∨ (g t) / 8 = (i) ∧ (g t) % 8 < (0)))) → (∀ t t', 0 ≤ t → t < t' → t' < N → g t < g t') → (∀ k, opB σ f k → (0 ≤ (k) ∧ (k) % 8 < σ.2 36 f ∧ ((k) / 8 < (i) ∨ (k) / 8 = (i) ∧ (k) % 8 < (0))) → ∃ t, 0 ≤ t ∧ t < N ∧ g t = k) →  tvW mX1_starts (d + 3) K 47 [some (xR mR), some (xI f), some (xI 1), some (xI i), x4, x5, x6] [] (ov (nu (nu (au (au (au (au σ 38 (fl)) 44 (b)) 45 (l)) 46 (g)) 42 f) 43 (N)) G0) bc bs) := by
    intro l hl i i0 i1
    revert i0
    refine up (T := fun i => 0 ≤ i → (∀ (fl b g : Int → Int) (N : Int) (x4 x5 x6 : Option XV), (∀ z, fl z = if (0 ≤ (z - 64 * f) ∧ (z - 64 * f) % 8 < σ.2 36 f ∧ ((z - 64 * f) / 8 < (i) ∨ (z - 64 * f) / 8 = (i) ∧ (z - 64 * f) % 8 < (0))) then 0 else σ.2 38 z) → (∀ k, (0 ≤ (k) ∧ (k) % 8 < σ.2 36 f ∧ ((k) / 8 < (i) ∨ (k) / 8 = (i) ∧ (k) % 8 < (0))) → b k = 0) → (0 ≤ N ∧ N ≤ 8 * (i) + (0)) → (∀ t, 0 ≤ t → t < N → opB σ f (g t) ∧ (0 ≤ (g t) ∧ (g t) % 8 < σ.2 36 f ∧ ((g t) / 8 < (i) ∨ (g t) / 8 = (i) ∧ (g t) % 8 < (0)))) → (∀ t t', 0 ≤ t → t < t' → t' < N → g t < g t') → (∀ k, opB σ f k → (0 ≤ (k) ∧ (k) % 8 < σ.2 36 f ∧ ((k) / 8 < (i) ∨ (k) / 8 = (i) ∧ (k) % 8 < (0))) → ∃ t, 0 ≤ t ∧ t < N ∧ g t = k) →  tvW mX1_starts (d + 3) K 47 [some (xR mR), some (xI f), some (xI 1), some (xI i), x4, x5, x6] [] (ov (nu (nu (au (au (au (au σ 38 (fl)) 44 (b)) 45 (l)) 46 (g)) 42 f) 43 (N)) G0) bc bs)) (a := i) (σ.2 35 f) i1 (fun i0 fl b g N x4 x5 x6 hfl hb hN hg1 hg2 hg3 => ?_) (fun i _ i1 ih i0 fl b g N x4 x5 x6 hfl hb hN hg1 hg2 hg3 => ?_)
    · refine w_iload_n (pc' := 48) dX1_starts_47 rfl rfl ?_
      refine w_aload_n (pc' := 49) dX1_starts_48 rfl rfl ?_
      refine w_mga 35 (pc' := 52) dX1_starts_49 rfl fX1_88_1 rfl ?_
      refine w_iload_n (pc' := 53) dX1_starts_52 rfl rfl ?_
      refine w_mild (pc' := 54) dX1_starts_53 rfl rfl (by first | omega | (simp (decide := true) only [au_1, nu_2, au_lt, nu_lt, aw_e, nw_e, au_s, au_n, nu_s, nu_n, au_au, nu_nu, au_nu]; omega)) (by first | omega | (simp (decide := true) only [au_1, nu_2, au_lt, nu_lt, aw_e, nw_e, au_s, au_n, nu_s, nu_n, au_au, nu_nu, au_nu]; omega)) ?_
      -- at 54: .if_icmp .ge 99
      try simp (decide := true) only [au_1, nu_2, au_lt, nu_lt, aw_e, nw_e, au_s, au_n, nu_s, nu_n, au_au, nu_nu, au_nu]
      refine w_icmp_ge (pc' := 57) (tgt := 153) dX1_starts_54 rfl rfl (fun h_ => ?_) (fun h_ => False.elim (by first | omega | (simp (decide := true) only [au_1, nu_2, au_lt, nu_lt, aw_e, nw_e, au_s, au_n, nu_s, nu_n, au_au, nu_nu, au_nu] at h_; omega)))
      have efl : fl = zfl σ f := by
        funext z
        rw [hfl z]
        unfold zfl
        by_cases q : 0 ≤ z - 64 * f ∧ (z - 64 * f) / 8 < σ.2 35 f ∧ (z - 64 * f) % 8 < σ.2 36 f
        · rw [if_pos q, if_pos (by omega)]
        · rw [if_neg q, if_neg (by omega)]
      subst efl
      refine tail b l g N _ _ _ _ ?_ hl ⟨by omega, fun t t0 t1 => (hg1 t t0 t1).1, hg2, fun k hk => hg3 k hk ?_⟩
      · funext k
        unfold cut
        split
        · exact hb k (by omega)
        · rfl
      · have := hk.1
        omega
    · refine w_iload_n (pc' := 48) dX1_starts_47 rfl rfl ?_
      refine w_aload_n (pc' := 49) dX1_starts_48 rfl rfl ?_
      refine w_mga 35 (pc' := 52) dX1_starts_49 rfl fX1_88_1 rfl ?_
      refine w_iload_n (pc' := 53) dX1_starts_52 rfl rfl ?_
      refine w_mild (pc' := 54) dX1_starts_53 rfl rfl (by first | omega | (simp (decide := true) only [au_1, nu_2, au_lt, nu_lt, aw_e, nw_e, au_s, au_n, nu_s, nu_n, au_au, nu_nu, au_nu]; omega)) (by first | omega | (simp (decide := true) only [au_1, nu_2, au_lt, nu_lt, aw_e, nw_e, au_s, au_n, nu_s, nu_n, au_au, nu_nu, au_nu]; omega)) ?_
      -- at 54: .if_icmp .ge 99
      try simp (decide := true) only [au_1, nu_2, au_lt, nu_lt, aw_e, nw_e, au_s, au_n, nu_s, nu_n, au_au, nu_nu, au_nu]
      refine w_icmp_ge (pc' := 57) (tgt := 153) dX1_starts_54 rfl rfl (fun h_ => False.elim (by first | omega | (simp (decide := true) only [au_1, nu_2, au_lt, nu_lt, aw_e, nw_e, au_s, au_n, nu_s, nu_n, au_au, nu_nu, au_nu] at h_; omega))) (fun h_ => ?_)
      refine w_iconst (pc' := 58) dX1_starts_57 rfl (by decide) ?_
      refine w_ist4 (pc' := 60) dX1_starts_58 rfl rfl ?_
      -- at 60: .iload 4
      try simp (decide := true) only [au_1, nu_2, au_lt, nu_lt, aw_e, nw_e, au_s, au_n, nu_s, nu_n, au_au, nu_nu, au_nu]
      have cols : ∀ j, 0 ≤ j → j ≤ σ.2 36 f → (∀ (fl b g : Int → Int) (N : Int) (x4 x5 x6 : Option XV), (∀ z, fl z = if (0 ≤ (z - 64 * f) ∧ (z - 64 * f) % 8 < σ.2 36 f ∧ ((z - 64 * f) / 8 < (i) ∨ (z - 64 * f) / 8 = (i) ∧ (z - 64 * f) % 8 < (j))) then 0 else σ.2 38 z) → (∀ k, (0 ≤ (k) ∧ (k) % 8 < σ.2 36 f ∧ ((k) / 8 < (i) ∨ (k) / 8 = (i) ∧ (k) % 8 < (j))) → b k = 0) → (0 ≤ N ∧ N ≤ 8 * (i) + (j)) → (∀ t, 0 ≤ t → t < N → opB σ f (g t) ∧ (0 ≤ (g t) ∧ (g t) % 8 < σ.2 36 f ∧ ((g t) / 8 < (i) ∨ (g t) / 8 = (i) ∧ (g t) % 8 < (j)))) → (∀ t t', 0 ≤ t → t < t' → t' < N → g t < g t') → (∀ k, opB σ f k → (0 ≤ (k) ∧ (k) % 8 < σ.2 36 f ∧ ((k) / 8 < (i) ∨ (k) / 8 = (i) ∧ (k) % 8 < (j))) → ∃ t, 0 ≤ t ∧ t < N ∧ g t = k) →  tvW mX1_starts (d + 3) K 60 [some (xR mR), some (xI f), some (xI 1), some (xI i), some (xI j), x5, x6] [] (ov (nu (nu (au (au (au (au σ 38 (fl)) 44 (b)) 45 (l)) 46 (g)) 42 f) 43 (N)) G0) bc bs) := by
        intro j j0 j1
        revert j0
        refine up (T := fun j => 0 ≤ j → (∀ (fl b g : Int → Int) (N : Int) (x4 x5 x6 : Option XV), (∀ z, fl z = if (0 ≤ (z - 64 * f) ∧ (z - 64 * f) % 8 < σ.2 36 f ∧ ((z - 64 * f) / 8 < (i) ∨ (z - 64 * f) / 8 = (i) ∧ (z - 64 * f) % 8 < (j))) then 0 else σ.2 38 z) → (∀ k, (0 ≤ (k) ∧ (k) % 8 < σ.2 36 f ∧ ((k) / 8 < (i) ∨ (k) / 8 = (i) ∧ (k) % 8 < (j))) → b k = 0) → (0 ≤ N ∧ N ≤ 8 * (i) + (j)) → (∀ t, 0 ≤ t → t < N → opB σ f (g t) ∧ (0 ≤ (g t) ∧ (g t) % 8 < σ.2 36 f ∧ ((g t) / 8 < (i) ∨ (g t) / 8 = (i) ∧ (g t) % 8 < (j)))) → (∀ t t', 0 ≤ t → t < t' → t' < N → g t < g t') → (∀ k, opB σ f k → (0 ≤ (k) ∧ (k) % 8 < σ.2 36 f ∧ ((k) / 8 < (i) ∨ (k) / 8 = (i) ∧ (k) % 8 < (j))) → ∃ t, 0 ≤ t ∧ t < N ∧ g t = k) →  tvW mX1_starts (d + 3) K 60 [some (xR mR), some (xI f), some (xI 1), some (xI i), some (xI j), x5, x6] [] (ov (nu (nu (au (au (au (au σ 38 (fl)) 44 (b)) 45 (l)) 46 (g)) 42 f) 43 (N)) G0) bc bs)) (a := j) (σ.2 36 f) j1 (fun j0 fl b g N x4 x5 x6 hfl hb hN hg1 hg2 hg3 => ?_) (fun j _ j1 ihj j0 fl b g N x4 x5 x6 hfl hb hN hg1 hg2 hg3 => ?_)
        · refine w_iload (pc' := 62) dX1_starts_60 rfl rfl ?_
          refine w_aload_n (pc' := 63) dX1_starts_62 rfl rfl ?_
          refine w_mga 36 (pc' := 66) dX1_starts_63 rfl fX1_91_1 rfl ?_
          refine w_iload_n (pc' := 67) dX1_starts_66 rfl rfl ?_
          refine w_mild (pc' := 68) dX1_starts_67 rfl rfl (by first | omega | (simp (decide := true) only [au_1, nu_2, au_lt, nu_lt, aw_e, nw_e, au_s, au_n, nu_s, nu_n, au_au, nu_nu, au_nu]; omega)) (by first | omega | (simp (decide := true) only [au_1, nu_2, au_lt, nu_lt, aw_e, nw_e, au_s, au_n, nu_s, nu_n, au_au, nu_nu, au_nu]; omega)) ?_
          -- at 68: .if_icmp .ge 79
          try simp (decide := true) only [au_1, nu_2, au_lt, nu_lt, aw_e, nw_e, au_s, au_n, nu_s, nu_n, au_au, nu_nu, au_nu]
          refine w_icmp_ge (pc' := 71) (tgt := 147) dX1_starts_68 rfl rfl (fun h_ => ?_) (fun h_ => False.elim (by first | omega | (simp (decide := true) only [au_1, nu_2, au_lt, nu_lt, aw_e, nw_e, au_s, au_n, nu_s, nu_n, au_au, nu_nu, au_nu] at h_; omega)))
          refine w_inc3 (pc' := 150) dX1_starts_147 rfl rfl ⟨by first | omega | (simp (decide := true) only [au_1, nu_2, au_lt, nu_lt, aw_e, nw_e, au_s, au_n, nu_s, nu_n, au_au, nu_nu, au_nu]; omega), by first | omega | (simp (decide := true) only [au_1, nu_2, au_lt, nu_lt, aw_e, nw_e, au_s, au_n, nu_s, nu_n, au_au, nu_nu, au_nu]; omega)⟩ ?_
          refine w_goto (tgt := 47) dX1_starts_150 rfl ?_
          -- at 47: .iload_n 3
          try simp (decide := true) only [au_1, nu_2, au_lt, nu_lt, aw_e, nw_e, au_s, au_n, nu_s, nu_n, au_au, nu_nu, au_nu]
          refine ih (by omega) fl b g N _ _ _ (fun z => ?_) (fun k hk => hb k (by omega)) (by omega) (fun t t0 t1 => ⟨(hg1 t t0 t1).1, by have := (hg1 t t0 t1).2; omega⟩) hg2 (fun k hk hd => hg3 k hk (by omega))
          rw [hfl z]
          by_cases q : (0 ≤ (z - 64 * f) ∧ (z - 64 * f) % 8 < σ.2 36 f ∧ ((z - 64 * f) / 8 < (i) ∨ (z - 64 * f) / 8 = (i) ∧ (z - 64 * f) % 8 < ((σ.2 36 f))))
          · rw [if_pos q, if_pos (by omega)]
          · rw [if_neg q, if_neg (by omega)]
        · have e1 : ∀ k, (0 ≤ (k) ∧ (k) % 8 < σ.2 36 f ∧ ((k) / 8 < (i) ∨ (k) / 8 = (i) ∧ (k) % 8 < ((j + 1)))) ↔ (0 ≤ (k) ∧ (k) % 8 < σ.2 36 f ∧ ((k) / 8 < (i) ∨ (k) / 8 = (i) ∧ (k) % 8 < (j))) ∨ k = 8 * i + j := by intro k; omega
          have hto := ht (8 * i + j) (by omega) (by omega)
          have fl2 : ∀ z, iset fl (64 * f + (8 * i + j)) 0 z = if (0 ≤ (z - 64 * f) ∧ (z - 64 * f) % 8 < σ.2 36 f ∧ ((z - 64 * f) / 8 < (i) ∨ (z - 64 * f) / 8 = (i) ∧ (z - 64 * f) % 8 < ((j + 1)))) then 0 else σ.2 38 z := by
            intro z
            unfold iset
            by_cases q : z = 64 * f + (8 * i + j)
            · rw [if_pos q, if_pos (by omega)]
            · rw [if_neg q, hfl z]
              by_cases q2 : (0 ≤ (z - 64 * f) ∧ (z - 64 * f) % 8 < σ.2 36 f ∧ ((z - 64 * f) / 8 < (i) ∨ (z - 64 * f) / 8 = (i) ∧ (z - 64 * f) % 8 < (j)))
              · rw [if_pos q2, if_pos (by omega)]
              · rw [if_neg q2, if_neg (by omega)]
          have b2 : ∀ k, (0 ≤ (k) ∧ (k) % 8 < σ.2 36 f ∧ ((k) / 8 < (i) ∨ (k) / 8 = (i) ∧ (k) % 8 < ((j + 1)))) → iset b (8 * i + j) 0 k = 0 := by
            intro k hk
            unfold iset
            split
            · rfl
            · exact hb k (by omega)
          have ihj := ihj (by omega)
          refine w_iload (pc' := 62) dX1_starts_60 rfl rfl ?_
          refine w_aload_n (pc' := 63) dX1_starts_62 rfl rfl ?_
          refine w_mga 36 (pc' := 66) dX1_starts_63 rfl fX1_91_1 rfl ?_
          refine w_iload_n (pc' := 67) dX1_starts_66 rfl rfl ?_
          refine w_mild (pc' := 68) dX1_starts_67 rfl rfl (by first | omega | (simp (decide := true) only [au_1, nu_2, au_lt, nu_lt, aw_e, nw_e, au_s, au_n, nu_s, nu_n, au_au, nu_nu, au_nu]; omega)) (by first | omega | (simp (decide := true) only [au_1, nu_2, au_lt, nu_lt, aw_e, nw_e, au_s, au_n, nu_s, nu_n, au_au, nu_nu, au_nu]; omega)) ?_
          -- at 68: .if_icmp .ge 79
          try simp (decide := true) only [au_1, nu_2, au_lt, nu_lt, aw_e, nw_e, au_s, au_n, nu_s, nu_n, au_au, nu_nu, au_nu]
          refine w_icmp_ge (pc' := 71) (tgt := 147) dX1_starts_68 rfl rfl (fun h_ => False.elim (by first | omega | (simp (decide := true) only [au_1, nu_2, au_lt, nu_lt, aw_e, nw_e, au_s, au_n, nu_s, nu_n, au_au, nu_nu, au_nu] at h_; omega))) (fun h_ => ?_)
          refine w_bipush (pc' := 73) dX1_starts_71 rfl (by decide +kernel) (by decide) ?_
          refine w_iload_n (pc' := 74) dX1_starts_73 rfl rfl ?_
          refine w_imul (pc' := 75) dX1_starts_74 rfl ⟨by first | omega | (simp (decide := true) only [au_1, nu_2, au_lt, nu_lt, aw_e, nw_e, au_s, au_n, nu_s, nu_n, au_au, nu_nu, au_nu]; omega), by first | omega | (simp (decide := true) only [au_1, nu_2, au_lt, nu_lt, aw_e, nw_e, au_s, au_n, nu_s, nu_n, au_au, nu_nu, au_nu]; omega)⟩ ?_
          refine w_iload (pc' := 77) dX1_starts_75 rfl rfl ?_
          refine w_iadd (pc' := 78) dX1_starts_77 rfl ⟨by first | omega | (simp (decide := true) only [au_1, nu_2, au_lt, nu_lt, aw_e, nw_e, au_s, au_n, nu_s, nu_n, au_au, nu_nu, au_nu]; omega), by first | omega | (simp (decide := true) only [au_1, nu_2, au_lt, nu_lt, aw_e, nw_e, au_s, au_n, nu_s, nu_n, au_au, nu_nu, au_nu]; omega)⟩ ?_
          refine w_ist5 (pc' := 80) dX1_starts_78 rfl rfl ?_
          refine w_aload_n (pc' := 81) dX1_starts_80 rfl rfl ?_
          refine w_mga 44 (pc' := 84) dX1_starts_81 rfl fX1_103_1 rfl ?_
          refine w_iload (pc' := 86) dX1_starts_84 rfl rfl ?_
          refine w_iconst (pc' := 87) dX1_starts_86 rfl (by decide) ?_
          refine w_aui (pc' := 88) dX1_starts_87 rfl rfl (by first | omega | (simp (decide := true) only [au_1, nu_2, au_lt, nu_lt, aw_e, nw_e, au_s, au_n, nu_s, nu_n, au_au, nu_nu, au_nu]; omega)) (by first | omega | (simp (decide := true) only [au_1, nu_2, au_lt, nu_lt, aw_e, nw_e, au_s, au_n, nu_s, nu_n, au_au, nu_nu, au_nu]; omega)) ?_
          try simp (decide := true) only [au_1, nu_2, au_lt, nu_lt, aw_e, nw_e, au_s, au_n, nu_s, nu_n, au_au, nu_nu, au_nu]
          refine w_aload_n (pc' := 89) dX1_starts_88 rfl rfl ?_
          refine w_mga 38 (pc' := 92) dX1_starts_89 rfl fX1_97_1 rfl ?_
          refine w_bipush (pc' := 94) dX1_starts_92 rfl (by decide +kernel) (by decide) ?_
          refine w_iload_n (pc' := 95) dX1_starts_94 rfl rfl ?_
          refine w_imul (pc' := 96) dX1_starts_95 rfl ⟨by first | omega | (simp (decide := true) only [au_1, nu_2, au_lt, nu_lt, aw_e, nw_e, au_s, au_n, nu_s, nu_n, au_au, nu_nu, au_nu]; omega), by first | omega | (simp (decide := true) only [au_1, nu_2, au_lt, nu_lt, aw_e, nw_e, au_s, au_n, nu_s, nu_n, au_au, nu_nu, au_nu]; omega)⟩ ?_
          refine w_iload (pc' := 98) dX1_starts_96 rfl rfl ?_
          refine w_iadd (pc' := 99) dX1_starts_98 rfl ⟨by first | omega | (simp (decide := true) only [au_1, nu_2, au_lt, nu_lt, aw_e, nw_e, au_s, au_n, nu_s, nu_n, au_au, nu_nu, au_nu]; omega), by first | omega | (simp (decide := true) only [au_1, nu_2, au_lt, nu_lt, aw_e, nw_e, au_s, au_n, nu_s, nu_n, au_au, nu_nu, au_nu]; omega)⟩ ?_
          refine w_iconst (pc' := 100) dX1_starts_99 rfl (by decide) ?_
          refine w_aui (pc' := 101) dX1_starts_100 rfl rfl (by first | omega | (simp (decide := true) only [au_1, nu_2, au_lt, nu_lt, aw_e, nw_e, au_s, au_n, nu_s, nu_n, au_au, nu_nu, au_nu]; omega)) (by first | omega | (simp (decide := true) only [au_1, nu_2, au_lt, nu_lt, aw_e, nw_e, au_s, au_n, nu_s, nu_n, au_au, nu_nu, au_nu]; omega)) ?_
          try simp (decide := true) only [au_1, nu_2, au_lt, nu_lt, aw_e, nw_e, au_s, au_n, nu_s, nu_n, au_au, nu_nu, au_nu]
          refine w_aload_n (pc' := 102) dX1_starts_101 rfl rfl ?_
          refine w_mga 37 (pc' := 105) dX1_starts_102 rfl fX1_94_1 rfl ?_
          refine w_bipush (pc' := 107) dX1_starts_105 rfl (by decide +kernel) (by decide) ?_
          refine w_iload_n (pc' := 108) dX1_starts_107 rfl rfl ?_
          refine w_imul (pc' := 109) dX1_starts_108 rfl ⟨by first | omega | (simp (decide := true) only [au_1, nu_2, au_lt, nu_lt, aw_e, nw_e, au_s, au_n, nu_s, nu_n, au_au, nu_nu, au_nu]; omega), by first | omega | (simp (decide := true) only [au_1, nu_2, au_lt, nu_lt, aw_e, nw_e, au_s, au_n, nu_s, nu_n, au_au, nu_nu, au_nu]; omega)⟩ ?_
          refine w_iload (pc' := 111) dX1_starts_109 rfl rfl ?_
          refine w_iadd (pc' := 112) dX1_starts_111 rfl ⟨by first | omega | (simp (decide := true) only [au_1, nu_2, au_lt, nu_lt, aw_e, nw_e, au_s, au_n, nu_s, nu_n, au_au, nu_nu, au_nu]; omega), by first | omega | (simp (decide := true) only [au_1, nu_2, au_lt, nu_lt, aw_e, nw_e, au_s, au_n, nu_s, nu_n, au_au, nu_nu, au_nu]; omega)⟩ ?_
          refine w_mild (pc' := 113) dX1_starts_112 rfl rfl (by first | omega | (simp (decide := true) only [au_1, nu_2, au_lt, nu_lt, aw_e, nw_e, au_s, au_n, nu_s, nu_n, au_au, nu_nu, au_nu]; omega)) (by first | omega | (simp (decide := true) only [au_1, nu_2, au_lt, nu_lt, aw_e, nw_e, au_s, au_n, nu_s, nu_n, au_au, nu_nu, au_nu]; omega)) ?_
          refine w_ist6 (pc' := 115) dX1_starts_113 rfl rfl ?_
          refine w_iload (pc' := 117) dX1_starts_115 rfl rfl ?_
          -- at 117: .ifCond .ne 24
          try simp (decide := true) only [au_1, nu_2, au_lt, nu_lt, aw_e, nw_e, au_s, au_n, nu_s, nu_n, au_au, nu_nu, au_nu]
          refine w_if_ne (pc' := 120) (tgt := 141) dX1_starts_117 rfl rfl (fun g1 => ?_) (fun g1 => ?_)
          · refine w_inc4 (pc' := 144) dX1_starts_141 rfl rfl ⟨by first | omega | (simp (decide := true) only [au_1, nu_2, au_lt, nu_lt, aw_e, nw_e, au_s, au_n, nu_s, nu_n, au_au, nu_nu, au_nu]; omega), by first | omega | (simp (decide := true) only [au_1, nu_2, au_lt, nu_lt, aw_e, nw_e, au_s, au_n, nu_s, nu_n, au_au, nu_nu, au_nu]; omega)⟩ ?_
            refine w_goto (tgt := 60) dX1_starts_144 rfl ?_
            -- at 60: .iload 4
            try simp (decide := true) only [au_1, nu_2, au_lt, nu_lt, aw_e, nw_e, au_s, au_n, nu_s, nu_n, au_au, nu_nu, au_nu]
            refine ihj _ _ g N x4 _ _ fl2 b2 (by omega) (fun t t0 t1 => ⟨(hg1 t t0 t1).1, by have := (hg1 t t0 t1).2; omega⟩) hg2 (fun k hk hd => ?_)
            refine hg3 k hk ?_
            by_cases q : k = 8 * i + j
            · have := hk.2
              rw [q] at this
              exact absurd this g1
            · omega
          · have hop : opB σ f (8 * i + j) := ⟨⟨by omega, by omega, by omega⟩, g1⟩
            refine w_aload_n (pc' := 121) dX1_starts_120 rfl rfl ?_
            refine w_mga 46 (pc' := 124) dX1_starts_121 rfl fX1_109_1 rfl ?_
            refine w_aload_n (pc' := 125) dX1_starts_124 rfl rfl ?_
            refine w_mgi 43 (pc' := 128) dX1_starts_125 rfl fX1_307_1 rfl ?_
            refine w_iload (pc' := 130) dX1_starts_128 rfl rfl ?_
            refine w_aui (pc' := 131) dX1_starts_130 rfl rfl (by first | omega | (simp (decide := true) only [au_1, nu_2, au_lt, nu_lt, aw_e, nw_e, au_s, au_n, nu_s, nu_n, au_au, nu_nu, au_nu]; omega)) (by first | omega | (simp (decide := true) only [au_1, nu_2, au_lt, nu_lt, aw_e, nw_e, au_s, au_n, nu_s, nu_n, au_au, nu_nu, au_nu]; omega)) ?_
            try simp (decide := true) only [au_1, nu_2, au_lt, nu_lt, aw_e, nw_e, au_s, au_n, nu_s, nu_n, au_au, nu_nu, au_nu]
            refine w_aload_n (pc' := 132) dX1_starts_131 rfl rfl ?_
            refine w_dup (pc' := 133) dX1_starts_132 rfl rfl ?_
            refine w_mgi 43 (pc' := 136) dX1_starts_133 rfl fX1_307_1 rfl ?_
            refine w_iconst (pc' := 137) dX1_starts_136 rfl (by decide) ?_
            refine w_iadd (pc' := 138) dX1_starts_137 rfl ⟨by first | omega | (simp (decide := true) only [au_1, nu_2, au_lt, nu_lt, aw_e, nw_e, au_s, au_n, nu_s, nu_n, au_au, nu_nu, au_nu]; omega), by first | omega | (simp (decide := true) only [au_1, nu_2, au_lt, nu_lt, aw_e, nw_e, au_s, au_n, nu_s, nu_n, au_au, nu_nu, au_nu]; omega)⟩ ?_
            refine w_nup 43 (pc' := 141) dX1_starts_138 rfl pX1_307_1 rfl trivial ?_
            try simp (decide := true) only [au_1, nu_2, au_lt, nu_lt, aw_e, nw_e, au_s, au_n, nu_s, nu_n, au_au, nu_nu, au_nu]
            refine w_inc4 (pc' := 144) dX1_starts_141 rfl rfl ⟨by first | omega | (simp (decide := true) only [au_1, nu_2, au_lt, nu_lt, aw_e, nw_e, au_s, au_n, nu_s, nu_n, au_au, nu_nu, au_nu]; omega), by first | omega | (simp (decide := true) only [au_1, nu_2, au_lt, nu_lt, aw_e, nw_e, au_s, au_n, nu_s, nu_n, au_au, nu_nu, au_nu]; omega)⟩ ?_
            refine w_goto (tgt := 60) dX1_starts_144 rfl ?_
            -- at 60: .iload 4
            try simp (decide := true) only [au_1, nu_2, au_lt, nu_lt, aw_e, nw_e, au_s, au_n, nu_s, nu_n, au_au, nu_nu, au_nu]
            refine ihj _ _ _ (N + 1) x4 _ _ fl2 b2 (by omega) (fun t t0 t1 => ?_) (fun t t' t0 t1 t2 => ?_) (fun k hk hd => ?_)
            · by_cases q : t = N
              · rw [q, iset_s]; exact ⟨hop, by omega⟩
              · rw [iset_n q]
                exact ⟨(hg1 t t0 (by omega)).1, by have := (hg1 t t0 (by omega)).2; omega⟩
            · rw [iset_n (show t ≠ N by omega)]
              by_cases q : t' = N
              · rw [q, iset_s]
                have := (hg1 t t0 (by omega)).2
                omega
              · rw [iset_n q]
                exact hg2 t t' t0 t1 (by omega)
            · by_cases q : k = 8 * i + j
              · exact ⟨N, by omega, by omega, by rw [iset_s, q]⟩
              · obtain ⟨t, t0, t1, t2⟩ := hg3 k hk (by omega)
                exact ⟨t, t0, by omega, by rw [iset_n (by omega)]; exact t2⟩
      exact cols 0 (by omega) (by omega) fl b g N x4 _ _ hfl hb hN hg1 hg2 hg3
  refine w_aload_n (pc' := 1) dX1_starts_0 rfl rfl ?_
  refine w_iload_n (pc' := 2) dX1_starts_1 rfl rfl ?_
  refine w_nup 42 (pc' := 5) dX1_starts_2 rfl pX1_294_1 rfl trivial ?_
  try simp (decide := true) only [au_1, nu_2, au_lt, nu_lt, aw_e, nw_e, au_s, au_n, nu_s, nu_n, au_au, nu_nu, au_nu]
  refine w_aload_n (pc' := 6) dX1_starts_5 rfl rfl ?_
  refine w_iconst (pc' := 7) dX1_starts_6 rfl (by decide) ?_
  refine w_nup 43 (pc' := 10) dX1_starts_7 rfl pX1_307_1 rfl trivial ?_
  try simp (decide := true) only [au_1, nu_2, au_lt, nu_lt, aw_e, nw_e, au_s, au_n, nu_s, nu_n, au_au, nu_nu, au_nu]
  refine w_iconst (pc' := 11) dX1_starts_10 rfl (by decide) ?_
  refine w_ist2 (pc' := 12) dX1_starts_11 rfl rfl ?_
  -- at 12: .iload_n 2
  try simp (decide := true) only [au_1, nu_2, au_lt, nu_lt, aw_e, nw_e, au_s, au_n, nu_s, nu_n, au_au, nu_nu, au_nu]
  refine w_ms (τ := nu (nu (au σ 45 (σ.2 45)) 42 f) 43 0) (by rw [au_id]) ?_
  refine up (T := fun k => ∀ l, (∀ k', 0 ≤ k' → k' < k → l k' = σ.2 39 (40 * f + k')) → tvW mX1_starts (d + 3) K 12 [some (xR mR), some (xI f), some (xI k), none, none, none, none] [] (ov (nu (nu (au σ 45 l) 42 f) 43 0) G0) bc bs) (σ.1 5) hK1.1 (fun l hl => ?_) (fun k k0 k1 ih l hl => ?_) (σ.2 45) (fun k' a b => by omega)
  · refine w_iload_n (pc' := 13) dX1_starts_12 rfl rfl ?_
    refine w_aload_n (pc' := 14) dX1_starts_13 rfl rfl ?_
    refine w_mgi 5 (pc' := 17) dX1_starts_14 rfl fX1_128_1 rfl ?_
    -- at 17: .if_icmp .ge 26
    try simp (decide := true) only [au_1, nu_2, au_lt, nu_lt, aw_e, nw_e, au_s, au_n, nu_s, nu_n, au_au, nu_nu, au_nu]
    refine w_icmp_ge (pc' := 20) (tgt := 43) dX1_starts_17 rfl rfl (fun h_ => ?_) (fun h_ => False.elim (by first | omega | (simp (decide := true) only [au_1, nu_2, au_lt, nu_lt, aw_e, nw_e, au_s, au_n, nu_s, nu_n, au_au, nu_nu, au_nu] at h_; omega)))
    refine w_iconst (pc' := 44) dX1_starts_43 rfl (by decide) ?_
    refine w_ist2 (pc' := 45) dX1_starts_44 rfl rfl ?_
    refine w_iconst (pc' := 46) dX1_starts_45 rfl (by decide) ?_
    refine w_ist3 (pc' := 47) dX1_starts_46 rfl rfl ?_
    -- at 47: .iload_n 3
    try simp (decide := true) only [au_1, nu_2, au_lt, nu_lt, aw_e, nw_e, au_s, au_n, nu_s, nu_n, au_au, nu_nu, au_nu]
    refine w_ms (τ := (nu (nu (au (au (au (au σ 38 ((σ.2 38))) 44 ((σ.2 44))) 45 (l)) 46 ((σ.2 46))) 42 f) 43 (0))) ?_ ?_
    · rw [au_id, au_id, show au (au σ 45 l) 46 (σ.2 46) = au σ 45 l from au_id (σ := au σ 45 l) (k := 46)]
    refine rows l ?_ 0 (by omega) (by omega) (σ.2 38) (σ.2 44) (σ.2 46) 0 _ _ _ (fun z => ?_) (fun k hk => by omega) (by omega) (fun t t0 t1 => by omega) (fun t t' t0 t1 t2 => by omega) (fun k hk hd => by omega)
    · funext k
      unfold cutl
      split
      · rename_i q; exact hl k q.1 q.2
      · rfl
    · rw [if_neg (by omega)]
  · refine w_iload_n (pc' := 13) dX1_starts_12 rfl rfl ?_
    refine w_aload_n (pc' := 14) dX1_starts_13 rfl rfl ?_
    refine w_mgi 5 (pc' := 17) dX1_starts_14 rfl fX1_128_1 rfl ?_
    -- at 17: .if_icmp .ge 26
    try simp (decide := true) only [au_1, nu_2, au_lt, nu_lt, aw_e, nw_e, au_s, au_n, nu_s, nu_n, au_au, nu_nu, au_nu]
    refine w_icmp_ge (pc' := 20) (tgt := 43) dX1_starts_17 rfl rfl (fun h_ => False.elim (by first | omega | (simp (decide := true) only [au_1, nu_2, au_lt, nu_lt, aw_e, nw_e, au_s, au_n, nu_s, nu_n, au_au, nu_nu, au_nu] at h_; omega))) (fun h_ => ?_)
    refine w_aload_n (pc' := 21) dX1_starts_20 rfl rfl ?_
    refine w_mga 45 (pc' := 24) dX1_starts_21 rfl fX1_106_1 rfl ?_
    refine w_iload_n (pc' := 25) dX1_starts_24 rfl rfl ?_
    refine w_aload_n (pc' := 26) dX1_starts_25 rfl rfl ?_
    refine w_mga 39 (pc' := 29) dX1_starts_26 rfl fX1_100_1 rfl ?_
    refine w_bipush (pc' := 31) dX1_starts_29 rfl (by decide +kernel) (by decide) ?_
    refine w_iload_n (pc' := 32) dX1_starts_31 rfl rfl ?_
    refine w_imul (pc' := 33) dX1_starts_32 rfl ⟨by first | omega | (simp (decide := true) only [au_1, nu_2, au_lt, nu_lt, aw_e, nw_e, au_s, au_n, nu_s, nu_n, au_au, nu_nu, au_nu]; omega), by first | omega | (simp (decide := true) only [au_1, nu_2, au_lt, nu_lt, aw_e, nw_e, au_s, au_n, nu_s, nu_n, au_au, nu_nu, au_nu]; omega)⟩ ?_
    refine w_iload_n (pc' := 34) dX1_starts_33 rfl rfl ?_
    refine w_iadd (pc' := 35) dX1_starts_34 rfl ⟨by first | omega | (simp (decide := true) only [au_1, nu_2, au_lt, nu_lt, aw_e, nw_e, au_s, au_n, nu_s, nu_n, au_au, nu_nu, au_nu]; omega), by first | omega | (simp (decide := true) only [au_1, nu_2, au_lt, nu_lt, aw_e, nw_e, au_s, au_n, nu_s, nu_n, au_au, nu_nu, au_nu]; omega)⟩ ?_
    refine w_mild (pc' := 36) dX1_starts_35 rfl rfl (by first | omega | (simp (decide := true) only [au_1, nu_2, au_lt, nu_lt, aw_e, nw_e, au_s, au_n, nu_s, nu_n, au_au, nu_nu, au_nu]; omega)) (by first | omega | (simp (decide := true) only [au_1, nu_2, au_lt, nu_lt, aw_e, nw_e, au_s, au_n, nu_s, nu_n, au_au, nu_nu, au_nu]; omega)) ?_
    refine w_aui (pc' := 37) dX1_starts_36 rfl rfl (by first | omega | (simp (decide := true) only [au_1, nu_2, au_lt, nu_lt, aw_e, nw_e, au_s, au_n, nu_s, nu_n, au_au, nu_nu, au_nu]; omega)) (by first | omega | (simp (decide := true) only [au_1, nu_2, au_lt, nu_lt, aw_e, nw_e, au_s, au_n, nu_s, nu_n, au_au, nu_nu, au_nu]; omega)) ?_
    try simp (decide := true) only [au_1, nu_2, au_lt, nu_lt, aw_e, nw_e, au_s, au_n, nu_s, nu_n, au_au, nu_nu, au_nu]
    refine w_inc2 (pc' := 40) dX1_starts_37 rfl rfl ⟨by first | omega | (simp (decide := true) only [au_1, nu_2, au_lt, nu_lt, aw_e, nw_e, au_s, au_n, nu_s, nu_n, au_au, nu_nu, au_nu]; omega), by first | omega | (simp (decide := true) only [au_1, nu_2, au_lt, nu_lt, aw_e, nw_e, au_s, au_n, nu_s, nu_n, au_au, nu_nu, au_nu]; omega)⟩ ?_
    refine w_goto (tgt := 12) dX1_starts_40 rfl ?_
    -- at 12: .iload_n 2
    try simp (decide := true) only [au_1, nu_2, au_lt, nu_lt, aw_e, nw_e, au_s, au_n, nu_s, nu_n, au_au, nu_nu, au_nu]
    refine ih _ (fun k' q0 q1 => ?_)
    by_cases e : k' = k
    · rw [e]; exact iset_s
    · rw [iset_n e]; exact hl k' q0 (by omega)
theorem c_X1_show (hF : fo1 σ) (hf : 0 ≤ σ.1 42 ∧ σ.1 42 < σ.1 40) (hO : OP σ (σ.1 42) (σ.1 43) (σ.2 46)) (h : K none (ov (au σ 38 (shF σ (σ.1 42) (σ.2 38) (σ.2 44))) G0)) : tvW mX1_show d K 0 [some (xR mR), none] [] (ov σ G0) bc bs := by
  obtain ⟨hN, o1, o2, o3⟩ := hO
  have hF1 := hF.1
  obtain ⟨hR, hC, -, -⟩ := hF.2 _ hf.1 hf.2
  refine w_iconst (pc' := 1) dX1_show_0 rfl (by decide) ?_
  refine w_ist1 (pc' := 2) dX1_show_1 rfl rfl ?_
  -- at 2: .iload_n 1
  try simp (decide := true) only [au_1, nu_2, au_lt, nu_lt, aw_e, nw_e, au_s, au_n, nu_s, nu_n, au_au, nu_nu, au_nu]
  refine w_ms (τ := au σ 38 (σ.2 38)) au_id.symm ?_
  refine up (T := fun t => ∀ fl : Int → Int, (∀ z, fl z = σ.2 38 z ∨ fl z = shF σ (σ.1 42) (σ.2 38) (σ.2 44) z) → (∀ t', 0 ≤ t' → t' < t → fl (64 * σ.1 42 + σ.2 46 t') = σ.2 44 (σ.2 46 t')) → tvW mX1_show d K 2 [some (xR mR), some (xI t)] [] (ov (au σ 38 fl) G0) bc bs) (σ.1 43) hN.1 (fun fl h1 h2 => ?_) (fun t t0 t1 ih fl h1 h2 => ?_) _ (fun z => Or.inl rfl) (fun t' a b => by omega)
  · have efl : fl = shF σ (σ.1 42) (σ.2 38) (σ.2 44) := by
      funext z
      by_cases q : opB σ (σ.1 42) (z - 64 * σ.1 42)
      · obtain ⟨t, t0, t1, t2⟩ := o3 _ q
        have := h2 t t0 t1
        rw [t2, show 64 * σ.1 42 + (z - 64 * σ.1 42) = z by omega] at this
        rw [this]
        unfold shF
        rw [ic_t q]
      · have e : shF σ (σ.1 42) (σ.2 38) (σ.2 44) z = σ.2 38 z := by unfold shF; exact ic_f q
        rcases h1 z with w | w
        · rw [w, e]
        · exact w
    subst efl
    refine w_iload_n (pc' := 3) dX1_show_2 rfl rfl ?_
    refine w_aload_n (pc' := 4) dX1_show_3 rfl rfl ?_
    refine w_mgi 43 (pc' := 7) dX1_show_4 rfl fX1_307_1 rfl ?_
    -- at 7: .if_icmp .ge 39
    try simp (decide := true) only [au_1, nu_2, au_lt, nu_lt, aw_e, nw_e, au_s, au_n, nu_s, nu_n, au_au, nu_nu, au_nu]
    refine w_icmp_ge (pc' := 10) (tgt := 46) dX1_show_7 rfl rfl (fun h_ => ?_) (fun h_ => False.elim (by first | omega | (simp (decide := true) only [au_1, nu_2, au_lt, nu_lt, aw_e, nw_e, au_s, au_n, nu_s, nu_n, au_au, nu_nu, au_nu] at h_; omega)))
    refine w_return dX1_show_46 rfl ?_
    exact h
  · have hop := (o1 t t0 t1).1
    refine w_iload_n (pc' := 3) dX1_show_2 rfl rfl ?_
    refine w_aload_n (pc' := 4) dX1_show_3 rfl rfl ?_
    refine w_mgi 43 (pc' := 7) dX1_show_4 rfl fX1_307_1 rfl ?_
    -- at 7: .if_icmp .ge 39
    try simp (decide := true) only [au_1, nu_2, au_lt, nu_lt, aw_e, nw_e, au_s, au_n, nu_s, nu_n, au_au, nu_nu, au_nu]
    refine w_icmp_ge (pc' := 10) (tgt := 46) dX1_show_7 rfl rfl (fun h_ => False.elim (by first | omega | (simp (decide := true) only [au_1, nu_2, au_lt, nu_lt, aw_e, nw_e, au_s, au_n, nu_s, nu_n, au_au, nu_nu, au_nu] at h_; omega))) (fun h_ => ?_)
    refine w_aload_n (pc' := 11) dX1_show_10 rfl rfl ?_
    refine w_mga 38 (pc' := 14) dX1_show_11 rfl fX1_97_1 rfl ?_
    refine w_bipush (pc' := 16) dX1_show_14 rfl (by decide +kernel) (by decide) ?_
    refine w_aload_n (pc' := 17) dX1_show_16 rfl rfl ?_
    refine w_mgi 42 (pc' := 20) dX1_show_17 rfl fX1_294_1 rfl ?_
    refine w_imul (pc' := 21) dX1_show_20 rfl ⟨by first | omega | (simp (decide := true) only [au_1, nu_2, au_lt, nu_lt, aw_e, nw_e, au_s, au_n, nu_s, nu_n, au_au, nu_nu, au_nu]; omega), by first | omega | (simp (decide := true) only [au_1, nu_2, au_lt, nu_lt, aw_e, nw_e, au_s, au_n, nu_s, nu_n, au_au, nu_nu, au_nu]; omega)⟩ ?_
    refine w_aload_n (pc' := 22) dX1_show_21 rfl rfl ?_
    refine w_mga 46 (pc' := 25) dX1_show_22 rfl fX1_109_1 rfl ?_
    refine w_iload_n (pc' := 26) dX1_show_25 rfl rfl ?_
    refine w_mild (pc' := 27) dX1_show_26 rfl rfl (by first | omega | (simp (decide := true) only [au_1, nu_2, au_lt, nu_lt, aw_e, nw_e, au_s, au_n, nu_s, nu_n, au_au, nu_nu, au_nu]; omega)) (by first | omega | (simp (decide := true) only [au_1, nu_2, au_lt, nu_lt, aw_e, nw_e, au_s, au_n, nu_s, nu_n, au_au, nu_nu, au_nu]; omega)) ?_
    refine w_iadd (pc' := 28) dX1_show_27 rfl ⟨by first | omega | (simp (decide := true) only [au_1, nu_2, au_lt, nu_lt, aw_e, nw_e, au_s, au_n, nu_s, nu_n, au_au, nu_nu, au_nu]; omega), by first | omega | (simp (decide := true) only [au_1, nu_2, au_lt, nu_lt, aw_e, nw_e, au_s, au_n, nu_s, nu_n, au_au, nu_nu, au_nu]; omega)⟩ ?_
    refine w_aload_n (pc' := 29) dX1_show_28 rfl rfl ?_
    refine w_mga 44 (pc' := 32) dX1_show_29 rfl fX1_103_1 rfl ?_
    refine w_aload_n (pc' := 33) dX1_show_32 rfl rfl ?_
    refine w_mga 46 (pc' := 36) dX1_show_33 rfl fX1_109_1 rfl ?_
    refine w_iload_n (pc' := 37) dX1_show_36 rfl rfl ?_
    refine w_mild (pc' := 38) dX1_show_37 rfl rfl (by first | omega | (simp (decide := true) only [au_1, nu_2, au_lt, nu_lt, aw_e, nw_e, au_s, au_n, nu_s, nu_n, au_au, nu_nu, au_nu]; omega)) (by first | omega | (simp (decide := true) only [au_1, nu_2, au_lt, nu_lt, aw_e, nw_e, au_s, au_n, nu_s, nu_n, au_au, nu_nu, au_nu]; omega)) ?_
    refine w_mild (pc' := 39) dX1_show_38 rfl rfl (by first | omega | (simp (decide := true) only [au_1, nu_2, au_lt, nu_lt, aw_e, nw_e, au_s, au_n, nu_s, nu_n, au_au, nu_nu, au_nu]; omega)) (by first | omega | (simp (decide := true) only [au_1, nu_2, au_lt, nu_lt, aw_e, nw_e, au_s, au_n, nu_s, nu_n, au_au, nu_nu, au_nu]; omega)) ?_
    refine w_aui (pc' := 40) dX1_show_39 rfl rfl (by first | omega | (simp (decide := true) only [au_1, nu_2, au_lt, nu_lt, aw_e, nw_e, au_s, au_n, nu_s, nu_n, au_au, nu_nu, au_nu]; omega)) (by first | omega | (simp (decide := true) only [au_1, nu_2, au_lt, nu_lt, aw_e, nw_e, au_s, au_n, nu_s, nu_n, au_au, nu_nu, au_nu]; omega)) ?_
    try simp (decide := true) only [au_1, nu_2, au_lt, nu_lt, aw_e, nw_e, au_s, au_n, nu_s, nu_n, au_au, nu_nu, au_nu]
    refine w_inc1 (pc' := 43) dX1_show_40 rfl rfl ⟨by first | omega | (simp (decide := true) only [au_1, nu_2, au_lt, nu_lt, aw_e, nw_e, au_s, au_n, nu_s, nu_n, au_au, nu_nu, au_nu]; omega), by first | omega | (simp (decide := true) only [au_1, nu_2, au_lt, nu_lt, aw_e, nw_e, au_s, au_n, nu_s, nu_n, au_au, nu_nu, au_nu]; omega)⟩ ?_
    refine w_goto (tgt := 2) dX1_show_43 rfl ?_
    -- at 2: .iload_n 1
    try simp (decide := true) only [au_1, nu_2, au_lt, nu_lt, aw_e, nw_e, au_s, au_n, nu_s, nu_n, au_au, nu_nu, au_nu]
    refine ih _ (fun z => ?_) (fun t' q0 q1 => ?_)
    · by_cases e : z = 64 * σ.1 42 + σ.2 46 t
      · right
        rw [e, iset_s]
        unfold shF
        rw [show 64 * σ.1 42 + σ.2 46 t - 64 * σ.1 42 = σ.2 46 t by omega, ic_t (o1 t t0 t1)]
      · rw [iset_n e]; exact h1 z
    · by_cases e : t' = t
      · rw [e]; exact iset_s
      · have : σ.2 46 t' ≠ σ.2 46 t := by
          have := o2 t' t q0 (by omega) t1
          omega
        rw [iset_n (by omega)]; exact h2 t' q0 (by omega)
theorem c_X1_nextPlace (hK : kok σ) (hF : fo1 σ) (hf : 0 ≤ σ.1 42 ∧ σ.1 42 < σ.1 40) (hb : bok σ (σ.1 42) (σ.2 44)) (hO : OP σ (σ.1 42) (σ.1 43) (σ.2 46)) (h1 : ∀ pl, 0 ≤ pl → pl < 64 → nxP σ (σ.1 42) (σ.2 44) (σ.2 45) pl → K (some (xI pl)) (ov σ G0)) (h0 : (∀ k, opB σ (σ.1 42) k → σ.2 44 k ≠ 0) → K (some (xI (-1))) (ov σ G0)) : tvW mX1_nextPlace (d + 5) K 0 [some (xR mR), none, none, none, none] [] (ov σ G0) bc bs := by
  obtain ⟨hN, o1, o2, o3⟩ := hO
  have hF1 := hF.1
  have hK1 := hK.1
  obtain ⟨hR, hC, -, -⟩ := hF.2 _ hf.1 hf.2
  have nfr : ∀ k, 0 ≤ (nfB σ (σ.1 42) (σ.2 44) (σ.2 45) (k)) ∧ (nfB σ (σ.1 42) (σ.2 44) (σ.2 45) (k)) ≤ 8 * σ.1 5 := fun k => by
    have := sm_r (f := fun n => b1 (cdB σ (σ.1 42) (σ.2 44) (σ.2 45) k n)) (n := 8 * σ.1 5) 1 (by omega) (fun _ _ _ => b1_r _)
    unfold nfB
    omega
  refine w_iconst (pc' := 1) dX1_nextPlace_0 rfl (by decide) ?_
  refine w_ist1 (pc' := 2) dX1_nextPlace_1 rfl rfl ?_
  refine w_iconst (pc' := 3) dX1_nextPlace_2 rfl (by decide) ?_
  refine w_ist2 (pc' := 4) dX1_nextPlace_3 rfl rfl ?_
  refine w_iconst (pc' := 5) dX1_nextPlace_4 rfl (by decide) ?_
  refine w_ist3 (pc' := 6) dX1_nextPlace_5 rfl rfl ?_
  -- at 6: .iload_n 3
  try simp (decide := true) only [au_1, nu_2, au_lt, nu_lt, aw_e, nw_e, au_s, au_n, nu_s, nu_n, au_au, nu_nu, au_nu]
  refine up (T := fun t => ∀ (a le : Int) (x4 : Option XV), ((a = -1 ∧ ∀ t', 0 ≤ t' → t' < t → σ.2 44 (σ.2 46 t') ≠ 0) ∨ ∃ t0, 0 ≤ t0 ∧ t0 < t ∧ a = σ.2 46 t0 ∧ σ.2 44 a = 0 ∧ le = (nfB σ (σ.1 42) (σ.2 44) (σ.2 45) (a)) ∧ ∀ t', 0 ≤ t' → t' < t → σ.2 44 (σ.2 46 t') = 0 → le ≤ (nfB σ (σ.1 42) (σ.2 44) (σ.2 45) (σ.2 46 t')) ∧ (t' < t0 → le < (nfB σ (σ.1 42) (σ.2 44) (σ.2 45) (σ.2 46 t')))) → tvW mX1_nextPlace (d + 5) K 6 [some (xR mR), some (xI a), some (xI le), some (xI t), x4] [] (ov σ G0) bc bs) (σ.1 43) hN.1 (fun a le x4 hI => ?_) (fun t t0 t1 ih a le x4 hI => ?_) _ _ _ (Or.inl ⟨rfl, fun t' a b => by omega⟩)
  · refine w_iload_n (pc' := 7) dX1_nextPlace_6 rfl rfl ?_
    refine w_aload_n (pc' := 8) dX1_nextPlace_7 rfl rfl ?_
    refine w_mgi 43 (pc' := 11) dX1_nextPlace_8 rfl fX1_307_1 rfl ?_
    -- at 11: .if_icmp .ge 58
    try simp (decide := true) only [au_1, nu_2, au_lt, nu_lt, aw_e, nw_e, au_s, au_n, nu_s, nu_n, au_au, nu_nu, au_nu]
    refine w_icmp_ge (pc' := 14) (tgt := 69) dX1_nextPlace_11 rfl rfl (fun h_ => ?_) (fun h_ => False.elim (by first | omega | (simp (decide := true) only [au_1, nu_2, au_lt, nu_lt, aw_e, nw_e, au_s, au_n, nu_s, nu_n, au_au, nu_nu, au_nu] at h_; omega)))
    refine w_iload_n (pc' := 70) dX1_nextPlace_69 rfl rfl ?_
    -- at 70: .ireturn
    try simp (decide := true) only [au_1, nu_2, au_lt, nu_lt, aw_e, nw_e, au_s, au_n, nu_s, nu_n, au_au, nu_nu, au_nu]
    refine w_ireturn dX1_nextPlace_70 rfl ?_
    rcases hI with ⟨e, q⟩ | ⟨t0, t00, t01, e, q0, q1, q2⟩
    · rw [e]
      refine h0 (fun k hk => ?_)
      obtain ⟨t, a0, a1, a2⟩ := o3 k hk
      rw [← a2]; exact q t a0 a1
    · have hop := o1 t0 t00 t01
      have hop1 := hop.1
      refine h1 a (by omega) (by omega) ⟨e ▸ hop, q0, fun k hk hk0 => ?_⟩
      obtain ⟨t, a0, a1, a2⟩ := o3 k hk
      have := q2 t a0 a1 (by rw [a2]; exact hk0)
      rw [a2, q1] at this
      refine ⟨this.1, fun hlt => this.2 ?_⟩
      rcases Int.lt_trichotomy t t0 with w | w | w
      · exact w
      · rw [← a2, e, w] at hlt; omega
      · have := o2 t0 t t00 w a1
        rw [← a2, e] at hlt; omega
  · have hop := o1 t t0 t1
    have hop1 := hop.1
    refine w_iload_n (pc' := 7) dX1_nextPlace_6 rfl rfl ?_
    refine w_aload_n (pc' := 8) dX1_nextPlace_7 rfl rfl ?_
    refine w_mgi 43 (pc' := 11) dX1_nextPlace_8 rfl fX1_307_1 rfl ?_
    -- at 11: .if_icmp .ge 58
    try simp (decide := true) only [au_1, nu_2, au_lt, nu_lt, aw_e, nw_e, au_s, au_n, nu_s, nu_n, au_au, nu_nu, au_nu]
    refine w_icmp_ge (pc' := 14) (tgt := 69) dX1_nextPlace_11 rfl rfl (fun h_ => False.elim (by first | omega | (simp (decide := true) only [au_1, nu_2, au_lt, nu_lt, aw_e, nw_e, au_s, au_n, nu_s, nu_n, au_au, nu_nu, au_nu] at h_; omega))) (fun h_ => ?_)
    refine w_aload_n (pc' := 15) dX1_nextPlace_14 rfl rfl ?_
    refine w_mga 44 (pc' := 18) dX1_nextPlace_15 rfl fX1_103_1 rfl ?_
    refine w_aload_n (pc' := 19) dX1_nextPlace_18 rfl rfl ?_
    refine w_mga 46 (pc' := 22) dX1_nextPlace_19 rfl fX1_109_1 rfl ?_
    refine w_iload_n (pc' := 23) dX1_nextPlace_22 rfl rfl ?_
    refine w_mild (pc' := 24) dX1_nextPlace_23 rfl rfl (by first | omega | (simp (decide := true) only [au_1, nu_2, au_lt, nu_lt, aw_e, nw_e, au_s, au_n, nu_s, nu_n, au_au, nu_nu, au_nu]; omega)) (by first | omega | (simp (decide := true) only [au_1, nu_2, au_lt, nu_lt, aw_e, nw_e, au_s, au_n, nu_s, nu_n, au_au, nu_nu, au_nu]; omega)) ?_
    refine w_mild (pc' := 25) dX1_nextPlace_24 rfl rfl (by first | omega | (simp (decide := true) only [au_1, nu_2, au_lt, nu_lt, aw_e, nw_e, au_s, au_n, nu_s, nu_n, au_au, nu_nu, au_nu]; omega)) (by first | omega | (simp (decide := true) only [au_1, nu_2, au_lt, nu_lt, aw_e, nw_e, au_s, au_n, nu_s, nu_n, au_au, nu_nu, au_nu]; omega)) ?_
    -- at 25: .ifCond .eq 6
    try simp (decide := true) only [au_1, nu_2, au_lt, nu_lt, aw_e, nw_e, au_s, au_n, nu_s, nu_n, au_au, nu_nu, au_nu]
    refine w_if_eq (pc' := 28) (tgt := 31) dX1_nextPlace_25 rfl rfl (fun g => ?_) (fun g => ?_)
    · refine w_aload_n (pc' := 32) dX1_nextPlace_31 rfl rfl ?_
      refine w_aload_n (pc' := 33) dX1_nextPlace_32 rfl rfl ?_
      refine w_mga 46 (pc' := 36) dX1_nextPlace_33 rfl fX1_109_1 rfl ?_
      refine w_iload_n (pc' := 37) dX1_nextPlace_36 rfl rfl ?_
      refine w_mild (pc' := 38) dX1_nextPlace_37 rfl rfl (by first | omega | (simp (decide := true) only [au_1, nu_2, au_lt, nu_lt, aw_e, nw_e, au_s, au_n, nu_s, nu_n, au_au, nu_nu, au_nu]; omega)) (by first | omega | (simp (decide := true) only [au_1, nu_2, au_lt, nu_lt, aw_e, nw_e, au_s, au_n, nu_s, nu_n, au_au, nu_nu, au_nu]; omega)) ?_
      -- at 38: .invokevirtual 310
      try simp (decide := true) only [au_1, nu_2, au_lt, nu_lt, aw_e, nw_e, au_s, au_n, nu_s, nu_n, au_au, nu_nu, au_nu]
      refine w_callV1 (pc' := 41) (mc := 0) (ms := 0) dX1_nextPlace_38 rfl tX1_fitting q1541 rfl rfl qs73 q1539 ov_o rfl (Nat.le_of_ble_eq_true rfl) (Nat.le_of_ble_eq_true rfl) ?_
      refine c_X1_fitting hK hF hf hb ⟨by omega, by omega⟩ ?_
      refine w_p1 ?_
      have nt := nfr (σ.2 46 t)
      have take : (∀ t', 0 ≤ t' → t' < t → σ.2 44 (σ.2 46 t') = 0 → (nfB σ (σ.1 42) (σ.2 44) (σ.2 45) (σ.2 46 t)) < (nfB σ (σ.1 42) (σ.2 44) (σ.2 45) (σ.2 46 t'))) → tvW mX1_nextPlace (d + 5) K 53 [some (xR mR), some (xI a), some (xI le), some (xI t), some (xI (nfB σ (σ.1 42) (σ.2 44) (σ.2 45) (σ.2 46 t)))] [] (ov σ G0) bc bs := by
        intro hmin
        refine w_aload_n (pc' := 54) dX1_nextPlace_53 rfl rfl ?_
        refine w_mga 46 (pc' := 57) dX1_nextPlace_54 rfl fX1_109_1 rfl ?_
        refine w_iload_n (pc' := 58) dX1_nextPlace_57 rfl rfl ?_
        refine w_mild (pc' := 59) dX1_nextPlace_58 rfl rfl (by first | omega | (simp (decide := true) only [au_1, nu_2, au_lt, nu_lt, aw_e, nw_e, au_s, au_n, nu_s, nu_n, au_au, nu_nu, au_nu]; omega)) (by first | omega | (simp (decide := true) only [au_1, nu_2, au_lt, nu_lt, aw_e, nw_e, au_s, au_n, nu_s, nu_n, au_au, nu_nu, au_nu]; omega)) ?_
        refine w_ist1 (pc' := 60) dX1_nextPlace_59 rfl rfl ?_
        refine w_iload (pc' := 62) dX1_nextPlace_60 rfl rfl ?_
        refine w_ist2 (pc' := 63) dX1_nextPlace_62 rfl rfl ?_
        refine w_inc3 (pc' := 66) dX1_nextPlace_63 rfl rfl ⟨by first | omega | (simp (decide := true) only [au_1, nu_2, au_lt, nu_lt, aw_e, nw_e, au_s, au_n, nu_s, nu_n, au_au, nu_nu, au_nu]; omega), by first | omega | (simp (decide := true) only [au_1, nu_2, au_lt, nu_lt, aw_e, nw_e, au_s, au_n, nu_s, nu_n, au_au, nu_nu, au_nu]; omega)⟩ ?_
        refine w_goto (tgt := 6) dX1_nextPlace_66 rfl ?_
        -- at 6: .iload_n 3
        try simp (decide := true) only [au_1, nu_2, au_lt, nu_lt, aw_e, nw_e, au_s, au_n, nu_s, nu_n, au_au, nu_nu, au_nu]
        refine ih _ _ _ (Or.inr ⟨t, t0, by omega, rfl, g, rfl, fun t' q0 q1 q2 => ?_⟩)
        by_cases e : t' = t
        · rw [e]; omega
        · have := hmin t' q0 (by omega) q2
          omega
      refine w_ist4 (pc' := 43) dX1_nextPlace_41 rfl rfl ?_
      refine w_iload_n (pc' := 44) dX1_nextPlace_43 rfl rfl ?_
      -- at 44: .ifCond .lt 9
      try simp (decide := true) only [au_1, nu_2, au_lt, nu_lt, aw_e, nw_e, au_s, au_n, nu_s, nu_n, au_au, nu_nu, au_nu]
      refine w_if_lt (pc' := 47) (tgt := 53) dX1_nextPlace_44 rfl rfl (fun g2 => ?_) (fun g2 => ?_)
      · refine take (fun t' q0 q1 q2 => ?_)
        rcases hI with ⟨e, q⟩ | ⟨t0', t00, t01, e, q0', q1', q2'⟩
        · exact absurd q2 (q t' q0 q1)
        · have := (o1 t0' t00 (by omega)).1
          omega
      · refine w_iload (pc' := 49) dX1_nextPlace_47 rfl rfl ?_
        refine w_iload_n (pc' := 50) dX1_nextPlace_49 rfl rfl ?_
        -- at 50: .if_icmp .ge 13
        try simp (decide := true) only [au_1, nu_2, au_lt, nu_lt, aw_e, nw_e, au_s, au_n, nu_s, nu_n, au_au, nu_nu, au_nu]
        refine w_icmp_ge (pc' := 53) (tgt := 63) dX1_nextPlace_50 rfl rfl (fun g3 => ?_) (fun g3 => ?_)
        · refine w_inc3 (pc' := 66) dX1_nextPlace_63 rfl rfl ⟨by first | omega | (simp (decide := true) only [au_1, nu_2, au_lt, nu_lt, aw_e, nw_e, au_s, au_n, nu_s, nu_n, au_au, nu_nu, au_nu]; omega), by first | omega | (simp (decide := true) only [au_1, nu_2, au_lt, nu_lt, aw_e, nw_e, au_s, au_n, nu_s, nu_n, au_au, nu_nu, au_nu]; omega)⟩ ?_
          refine w_goto (tgt := 6) dX1_nextPlace_66 rfl ?_
          -- at 6: .iload_n 3
          try simp (decide := true) only [au_1, nu_2, au_lt, nu_lt, aw_e, nw_e, au_s, au_n, nu_s, nu_n, au_au, nu_nu, au_nu]
          rcases hI with ⟨e, q⟩ | ⟨t0', t00, t01, e, q0', q1', q2'⟩
          · omega
          · refine ih _ _ _ (Or.inr ⟨t0', t00, by omega, e, q0', q1', fun t' q0 q1 q2 => ?_⟩)
            by_cases e2 : t' = t
            · rw [e2]; exact ⟨g3, fun w => by omega⟩
            · exact q2' t' q0 (by omega) q2
        · refine take (fun t' q0 q1 q2 => ?_)
          rcases hI with ⟨e, q⟩ | ⟨t0', t00, t01, e, q0', q1', q2'⟩
          · exact absurd q2 (q t' q0 q1)
          · have := q2' t' q0 q1 q2
            omega
    · refine w_goto (tgt := 63) dX1_nextPlace_28 rfl ?_
      refine w_inc3 (pc' := 66) dX1_nextPlace_63 rfl rfl ⟨by first | omega | (simp (decide := true) only [au_1, nu_2, au_lt, nu_lt, aw_e, nw_e, au_s, au_n, nu_s, nu_n, au_au, nu_nu, au_nu]; omega), by first | omega | (simp (decide := true) only [au_1, nu_2, au_lt, nu_lt, aw_e, nw_e, au_s, au_n, nu_s, nu_n, au_au, nu_nu, au_nu]; omega)⟩ ?_
      refine w_goto (tgt := 6) dX1_nextPlace_66 rfl ?_
      -- at 6: .iload_n 3
      try simp (decide := true) only [au_1, nu_2, au_lt, nu_lt, aw_e, nw_e, au_s, au_n, nu_s, nu_n, au_au, nu_nu, au_nu]
      refine ih _ _ _ ?_
      rcases hI with ⟨e, q⟩ | ⟨t0', t00, t01, e, q0', q1', q2'⟩
      · refine Or.inl ⟨e, fun t' q0 q1 => ?_⟩
        by_cases e2 : t' = t
        · rw [e2]; exact g
        · exact q t' q0 (by omega)
      · refine Or.inr ⟨t0', t00, by omega, e, q0', q1', fun t' q0 q1 q2 => ?_⟩
        by_cases e2 : t' = t
        · rw [e2] at q2; exact absurd q2 g
        · exact q2' t' q0 (by omega) q2
theorem c_X1_lay {pl n : Int} (hK : kok σ) (hp : 0 ≤ pl ∧ pl < 64) (hn : 0 ≤ n ∧ n < 8 * σ.1 5) (hl : -1000 ≤ σ.2 45 (n / 8) ∧ σ.2 45 (n / 8) ≤ 1000) (h : K none (ov (nu (au (au σ 44 (iset (σ.2 44) pl (n + 1))) 45 (iset (σ.2 45) (n / 8) (σ.2 45 (n / 8) - 1))) 52 (w32 (σ.1 52 + σ.2 2 (n / 8)))) G0)) : tvW mX1_lay (d + 1) K 0 [some (xR mR), some (xI pl), some (xI n)] [] (ov σ G0) bc bs := by
  have hK1 := hK.1
  refine w_aload_n (pc' := 1) dX1_lay_0 rfl rfl ?_
  refine w_mga 44 (pc' := 4) dX1_lay_1 rfl fX1_103_1 rfl ?_
  refine w_iload_n (pc' := 5) dX1_lay_4 rfl rfl ?_
  refine w_iload_n (pc' := 6) dX1_lay_5 rfl rfl ?_
  refine w_bipush (pc' := 8) dX1_lay_6 rfl (by decide +kernel) (by decide) ?_
  refine w_idiv (pc' := 9) dX1_lay_8 rfl (by first | omega | (simp (decide := true) only [au_1, nu_2, au_lt, nu_lt, aw_e, nw_e, au_s, au_n, nu_s, nu_n, au_au, nu_nu, au_nu]; omega)) (by first | omega | (simp (decide := true) only [au_1, nu_2, au_lt, nu_lt, aw_e, nw_e, au_s, au_n, nu_s, nu_n, au_au, nu_nu, au_nu]; omega)) ?_
  refine w_iload_n (pc' := 10) dX1_lay_9 rfl rfl ?_
  refine w_bipush (pc' := 12) dX1_lay_10 rfl (by decide +kernel) (by decide) ?_
  refine w_irem (pc' := 13) dX1_lay_12 rfl (by first | omega | (simp (decide := true) only [au_1, nu_2, au_lt, nu_lt, aw_e, nw_e, au_s, au_n, nu_s, nu_n, au_au, nu_nu, au_nu]; omega)) (by first | omega | (simp (decide := true) only [au_1, nu_2, au_lt, nu_lt, aw_e, nw_e, au_s, au_n, nu_s, nu_n, au_au, nu_nu, au_nu]; omega)) ?_
  refine w_iconst (pc' := 14) dX1_lay_13 rfl (by decide) ?_
  -- at 14: .invokestatic 166
  try simp (decide := true) only [au_1, nu_2, au_lt, nu_lt, aw_e, nw_e, au_s, au_n, nu_s, nu_n, au_au, nu_nu, au_nu]
  refine w_callS3 (pc' := 17) (mc := 0) (ms := 0) dX1_lay_14 rfl tX1_cell q1329 q1328 rfl (Nat.le_of_ble_eq_true rfl) (Nat.le_of_ble_eq_true rfl) ?_
  refine c_X1_cell ⟨by omega, by omega⟩ ⟨by omega, by omega⟩ ⟨by omega, by omega⟩ ?_
  refine w_p1 ?_
  rw [cel_n]
  refine w_aui (pc' := 18) dX1_lay_17 rfl rfl (by first | omega | (simp (decide := true) only [au_1, nu_2, au_lt, nu_lt, aw_e, nw_e, au_s, au_n, nu_s, nu_n, au_au, nu_nu, au_nu]; omega)) (by first | omega | (simp (decide := true) only [au_1, nu_2, au_lt, nu_lt, aw_e, nw_e, au_s, au_n, nu_s, nu_n, au_au, nu_nu, au_nu]; omega)) ?_
  try simp (decide := true) only [au_1, nu_2, au_lt, nu_lt, aw_e, nw_e, au_s, au_n, nu_s, nu_n, au_au, nu_nu, au_nu]
  refine w_aload_n (pc' := 19) dX1_lay_18 rfl rfl ?_
  refine w_mga 45 (pc' := 22) dX1_lay_19 rfl fX1_106_1 rfl ?_
  refine w_iload_n (pc' := 23) dX1_lay_22 rfl rfl ?_
  refine w_bipush (pc' := 25) dX1_lay_23 rfl (by decide +kernel) (by decide) ?_
  refine w_idiv (pc' := 26) dX1_lay_25 rfl (by first | omega | (simp (decide := true) only [au_1, nu_2, au_lt, nu_lt, aw_e, nw_e, au_s, au_n, nu_s, nu_n, au_au, nu_nu, au_nu]; omega)) (by first | omega | (simp (decide := true) only [au_1, nu_2, au_lt, nu_lt, aw_e, nw_e, au_s, au_n, nu_s, nu_n, au_au, nu_nu, au_nu]; omega)) ?_
  refine w_dup2 (pc' := 27) dX1_lay_26 rfl rfl rfl ?_
  refine w_mild (pc' := 28) dX1_lay_27 rfl rfl (by first | omega | (simp (decide := true) only [au_1, nu_2, au_lt, nu_lt, aw_e, nw_e, au_s, au_n, nu_s, nu_n, au_au, nu_nu, au_nu]; omega)) (by first | omega | (simp (decide := true) only [au_1, nu_2, au_lt, nu_lt, aw_e, nw_e, au_s, au_n, nu_s, nu_n, au_au, nu_nu, au_nu]; omega)) ?_
  refine w_iconst (pc' := 29) dX1_lay_28 rfl (by decide) ?_
  refine w_isub (pc' := 30) dX1_lay_29 rfl ⟨by first | omega | (simp (decide := true) only [au_1, nu_2, au_lt, nu_lt, aw_e, nw_e, au_s, au_n, nu_s, nu_n, au_au, nu_nu, au_nu]; omega), by first | omega | (simp (decide := true) only [au_1, nu_2, au_lt, nu_lt, aw_e, nw_e, au_s, au_n, nu_s, nu_n, au_au, nu_nu, au_nu]; omega)⟩ ?_
  refine w_aui (pc' := 31) dX1_lay_30 rfl rfl (by first | omega | (simp (decide := true) only [au_1, nu_2, au_lt, nu_lt, aw_e, nw_e, au_s, au_n, nu_s, nu_n, au_au, nu_nu, au_nu]; omega)) (by first | omega | (simp (decide := true) only [au_1, nu_2, au_lt, nu_lt, aw_e, nw_e, au_s, au_n, nu_s, nu_n, au_au, nu_nu, au_nu]; omega)) ?_
  try simp (decide := true) only [au_1, nu_2, au_lt, nu_lt, aw_e, nw_e, au_s, au_n, nu_s, nu_n, au_au, nu_nu, au_nu]
  refine w_aload_n (pc' := 32) dX1_lay_31 rfl rfl ?_
  refine w_dup (pc' := 33) dX1_lay_32 rfl rfl ?_
  refine w_mgi 52 (pc' := 36) dX1_lay_33 rfl fX1_313_1 rfl ?_
  refine w_aload_n (pc' := 37) dX1_lay_36 rfl rfl ?_
  refine w_mga 2 (pc' := 40) dX1_lay_37 rfl fX1_16_1 rfl ?_
  refine w_iload_n (pc' := 41) dX1_lay_40 rfl rfl ?_
  refine w_bipush (pc' := 43) dX1_lay_41 rfl (by decide +kernel) (by decide) ?_
  refine w_idiv (pc' := 44) dX1_lay_43 rfl (by first | omega | (simp (decide := true) only [au_1, nu_2, au_lt, nu_lt, aw_e, nw_e, au_s, au_n, nu_s, nu_n, au_au, nu_nu, au_nu]; omega)) (by first | omega | (simp (decide := true) only [au_1, nu_2, au_lt, nu_lt, aw_e, nw_e, au_s, au_n, nu_s, nu_n, au_au, nu_nu, au_nu]; omega)) ?_
  refine w_mild (pc' := 45) dX1_lay_44 rfl rfl (by first | omega | (simp (decide := true) only [au_1, nu_2, au_lt, nu_lt, aw_e, nw_e, au_s, au_n, nu_s, nu_n, au_au, nu_nu, au_nu]; omega)) (by first | omega | (simp (decide := true) only [au_1, nu_2, au_lt, nu_lt, aw_e, nw_e, au_s, au_n, nu_s, nu_n, au_au, nu_nu, au_nu]; omega)) ?_
  -- at 45: .iadd
  try simp (decide := true) only [au_1, nu_2, au_lt, nu_lt, aw_e, nw_e, au_s, au_n, nu_s, nu_n, au_au, nu_nu, au_nu]
  refine w_iaddW (pc' := 46) dX1_lay_45 rfl ?_
  refine w_nup 52 (pc' := 49) dX1_lay_46 rfl pX1_313_1 rfl trivial ?_
  try simp (decide := true) only [au_1, nu_2, au_lt, nu_lt, aw_e, nw_e, au_s, au_n, nu_s, nu_n, au_au, nu_nu, au_nu]
  -- at 49: .return_
  try simp (decide := true) only [au_1, nu_2, au_lt, nu_lt, aw_e, nw_e, au_s, au_n, nu_s, nu_n, au_au, nu_nu, au_nu]
  refine w_return dX1_lay_49 rfl ?_
  exact h
theorem c_X1_takeBack {pl : Int} (hK : kok σ) (hp : 0 ≤ pl ∧ pl < 64) (hc : 1 ≤ σ.2 44 pl ∧ σ.2 44 pl ≤ 8 * σ.1 5) (hl : -1000 ≤ σ.2 45 (kOf (σ.2 44 pl)) ∧ σ.2 45 (kOf (σ.2 44 pl)) ≤ 1000) (hco : -1000000 ≤ σ.1 52 ∧ σ.1 52 ≤ 1000000) (h : K none (ov (nu (au (au σ 44 (iset (σ.2 44) pl 0)) 45 (iset (σ.2 45) (kOf (σ.2 44 pl)) (σ.2 45 (kOf (σ.2 44 pl)) + 1))) 52 (σ.1 52 - σ.2 2 (kOf (σ.2 44 pl)))) G0)) : tvW mX1_takeBack (d + 1) K 0 [some (xR mR), some (xI pl), none] [] (ov σ G0) bc bs := by
  have hK1 := hK.1
  have hk : 0 ≤ kOf (σ.2 44 pl) ∧ kOf (σ.2 44 pl) < σ.1 5 := by unfold kOf; omega
  obtain ⟨-, -, hcs, -⟩ := hK.2 _ hk.1 hk.2
  refine w_aload_n (pc' := 1) dX1_takeBack_0 rfl rfl ?_
  refine w_mga 44 (pc' := 4) dX1_takeBack_1 rfl fX1_103_1 rfl ?_
  refine w_iload_n (pc' := 5) dX1_takeBack_4 rfl rfl ?_
  refine w_mild (pc' := 6) dX1_takeBack_5 rfl rfl (by first | omega | (simp (decide := true) only [au_1, nu_2, au_lt, nu_lt, aw_e, nw_e, au_s, au_n, nu_s, nu_n, au_au, nu_nu, au_nu]; omega)) (by first | omega | (simp (decide := true) only [au_1, nu_2, au_lt, nu_lt, aw_e, nw_e, au_s, au_n, nu_s, nu_n, au_au, nu_nu, au_nu]; omega)) ?_
  -- at 6: .invokestatic 156
  try simp (decide := true) only [au_1, nu_2, au_lt, nu_lt, aw_e, nw_e, au_s, au_n, nu_s, nu_n, au_au, nu_nu, au_nu]
  refine w_callS1 (pc' := 9) (mc := 0) (ms := 0) dX1_takeBack_6 rfl tX1_kindOf q1352 q1351 rfl (Nat.le_of_ble_eq_true rfl) (Nat.le_of_ble_eq_true rfl) ?_
  refine c_X1_kindOf ?_
  refine w_p1 ?_
  refine w_ist2 (pc' := 10) dX1_takeBack_9 rfl rfl ?_
  refine w_aload_n (pc' := 11) dX1_takeBack_10 rfl rfl ?_
  refine w_mga 44 (pc' := 14) dX1_takeBack_11 rfl fX1_103_1 rfl ?_
  refine w_iload_n (pc' := 15) dX1_takeBack_14 rfl rfl ?_
  refine w_iconst (pc' := 16) dX1_takeBack_15 rfl (by decide) ?_
  refine w_aui (pc' := 17) dX1_takeBack_16 rfl rfl (by first | omega | (simp (decide := true) only [au_1, nu_2, au_lt, nu_lt, aw_e, nw_e, au_s, au_n, nu_s, nu_n, au_au, nu_nu, au_nu]; omega)) (by first | omega | (simp (decide := true) only [au_1, nu_2, au_lt, nu_lt, aw_e, nw_e, au_s, au_n, nu_s, nu_n, au_au, nu_nu, au_nu]; omega)) ?_
  try simp (decide := true) only [au_1, nu_2, au_lt, nu_lt, aw_e, nw_e, au_s, au_n, nu_s, nu_n, au_au, nu_nu, au_nu]
  refine w_aload_n (pc' := 18) dX1_takeBack_17 rfl rfl ?_
  refine w_mga 45 (pc' := 21) dX1_takeBack_18 rfl fX1_106_1 rfl ?_
  refine w_iload_n (pc' := 22) dX1_takeBack_21 rfl rfl ?_
  refine w_dup2 (pc' := 23) dX1_takeBack_22 rfl rfl rfl ?_
  refine w_mild (pc' := 24) dX1_takeBack_23 rfl rfl (by first | omega | (simp (decide := true) only [au_1, nu_2, au_lt, nu_lt, aw_e, nw_e, au_s, au_n, nu_s, nu_n, au_au, nu_nu, au_nu]; omega)) (by first | omega | (simp (decide := true) only [au_1, nu_2, au_lt, nu_lt, aw_e, nw_e, au_s, au_n, nu_s, nu_n, au_au, nu_nu, au_nu]; omega)) ?_
  refine w_iconst (pc' := 25) dX1_takeBack_24 rfl (by decide) ?_
  refine w_iadd (pc' := 26) dX1_takeBack_25 rfl ⟨by first | omega | (simp (decide := true) only [au_1, nu_2, au_lt, nu_lt, aw_e, nw_e, au_s, au_n, nu_s, nu_n, au_au, nu_nu, au_nu]; omega), by first | omega | (simp (decide := true) only [au_1, nu_2, au_lt, nu_lt, aw_e, nw_e, au_s, au_n, nu_s, nu_n, au_au, nu_nu, au_nu]; omega)⟩ ?_
  refine w_aui (pc' := 27) dX1_takeBack_26 rfl rfl (by first | omega | (simp (decide := true) only [au_1, nu_2, au_lt, nu_lt, aw_e, nw_e, au_s, au_n, nu_s, nu_n, au_au, nu_nu, au_nu]; omega)) (by first | omega | (simp (decide := true) only [au_1, nu_2, au_lt, nu_lt, aw_e, nw_e, au_s, au_n, nu_s, nu_n, au_au, nu_nu, au_nu]; omega)) ?_
  try simp (decide := true) only [au_1, nu_2, au_lt, nu_lt, aw_e, nw_e, au_s, au_n, nu_s, nu_n, au_au, nu_nu, au_nu]
  refine w_aload_n (pc' := 28) dX1_takeBack_27 rfl rfl ?_
  refine w_dup (pc' := 29) dX1_takeBack_28 rfl rfl ?_
  refine w_mgi 52 (pc' := 32) dX1_takeBack_29 rfl fX1_313_1 rfl ?_
  refine w_aload_n (pc' := 33) dX1_takeBack_32 rfl rfl ?_
  refine w_mga 2 (pc' := 36) dX1_takeBack_33 rfl fX1_16_1 rfl ?_
  refine w_iload_n (pc' := 37) dX1_takeBack_36 rfl rfl ?_
  refine w_mild (pc' := 38) dX1_takeBack_37 rfl rfl (by first | omega | (simp (decide := true) only [au_1, nu_2, au_lt, nu_lt, aw_e, nw_e, au_s, au_n, nu_s, nu_n, au_au, nu_nu, au_nu]; omega)) (by first | omega | (simp (decide := true) only [au_1, nu_2, au_lt, nu_lt, aw_e, nw_e, au_s, au_n, nu_s, nu_n, au_au, nu_nu, au_nu]; omega)) ?_
  refine w_isub (pc' := 39) dX1_takeBack_38 rfl ⟨by first | omega | (simp (decide := true) only [au_1, nu_2, au_lt, nu_lt, aw_e, nw_e, au_s, au_n, nu_s, nu_n, au_au, nu_nu, au_nu]; omega), by first | omega | (simp (decide := true) only [au_1, nu_2, au_lt, nu_lt, aw_e, nw_e, au_s, au_n, nu_s, nu_n, au_au, nu_nu, au_nu]; omega)⟩ ?_
  refine w_nup 52 (pc' := 42) dX1_takeBack_39 rfl pX1_313_1 rfl trivial ?_
  try simp (decide := true) only [au_1, nu_2, au_lt, nu_lt, aw_e, nw_e, au_s, au_n, nu_s, nu_n, au_au, nu_nu, au_nu]
  -- at 42: .return_
  try simp (decide := true) only [au_1, nu_2, au_lt, nu_lt, aw_e, nw_e, au_s, au_n, nu_s, nu_n, au_au, nu_nu, au_nu]
  refine w_return dX1_takeBack_42 rfl ?_
  exact h
theorem lcs_r {σ : MS} {f : Int} (hK : kok σ) : ∀ n : Nat, (n : Int) ≤ σ.1 5 → ∀ v, lcs σ f n = some v → 0 ≤ v ∧ v ≤ 1000
  | 0, _, v, h => by cases h
  | n + 1, hn, v, h => by
    have ih := lcs_r (f := f) hK n (by omega)
    have hc := (hK.2 n (by omega) (by omega)).2.2.1
    rw [lcs_s] at h
    split at h
    · exact ih v h
    · cases hq : lcs σ f n with
      | none => rw [hq] at h; simp only [Option.some.injEq] at h; omega
      | some w =>
        rw [hq] at h
        simp only at h
        have := ih w hq
        split at h <;> simp only [Option.some.injEq] at h <;> omega
theorem c_X1_leastCost (hK : kok σ) (hF : fo1 σ) (hf : 0 ≤ σ.1 42 ∧ σ.1 42 < σ.1 40) (h : K (some (xI ((lcs σ (σ.1 42) (σ.1 5).toNat).getD 0))) (ov σ G0)) : tvW mX1_leastCost d K 0 [some (xR mR), none, none, none] [] (ov σ G0) bc bs := by
  have hK1 := hK.1
  have hF1 := hF.1
  refine w_iconst (pc' := 1) dX1_leastCost_0 rfl (by decide) ?_
  refine w_ist1 (pc' := 2) dX1_leastCost_1 rfl rfl ?_
  refine w_iconst (pc' := 3) dX1_leastCost_2 rfl (by decide) ?_
  refine w_ist2 (pc' := 4) dX1_leastCost_3 rfl rfl ?_
  refine w_iconst (pc' := 5) dX1_leastCost_4 rfl (by decide) ?_
  refine w_ist3 (pc' := 6) dX1_leastCost_5 rfl rfl ?_
  -- at 6: .iload_n 3
  try simp (decide := true) only [au_1, nu_2, au_lt, nu_lt, aw_e, nw_e, au_s, au_n, nu_s, nu_n, au_au, nu_nu, au_nu]
  have loop : ∀ (j n : Nat), n + j = (σ.1 5).toNat → ∀ le any, (any = 0 ∧ lcs σ (σ.1 42) n = none ∧ le = 0 ∨ any = 1 ∧ lcs σ (σ.1 42) n = some le) → tvW mX1_leastCost d K 6 [some (xR mR), some (xI le), some (xI any), some (xI (n : Int))] [] (ov σ G0) bc bs := by
    intro j
    induction j with
    | zero =>
      intro n hn le any hI
      refine w_iload_n (pc' := 7) dX1_leastCost_6 rfl rfl ?_
      refine w_aload_n (pc' := 8) dX1_leastCost_7 rfl rfl ?_
      refine w_mgi 5 (pc' := 11) dX1_leastCost_8 rfl fX1_128_1 rfl ?_
      -- at 11: .if_icmp .ge 52
      try simp (decide := true) only [au_1, nu_2, au_lt, nu_lt, aw_e, nw_e, au_s, au_n, nu_s, nu_n, au_au, nu_nu, au_nu]
      refine w_icmp_ge (pc' := 14) (tgt := 63) dX1_leastCost_11 rfl rfl (fun h_ => ?_) (fun h_ => False.elim (by first | omega | (simp (decide := true) only [au_1, nu_2, au_lt, nu_lt, aw_e, nw_e, au_s, au_n, nu_s, nu_n, au_au, nu_nu, au_nu] at h_; omega)))
      refine w_iload_n (pc' := 64) dX1_leastCost_63 rfl rfl ?_
      -- at 64: .ireturn
      try simp (decide := true) only [au_1, nu_2, au_lt, nu_lt, aw_e, nw_e, au_s, au_n, nu_s, nu_n, au_au, nu_nu, au_nu]
      refine w_ireturn dX1_leastCost_64 rfl ?_
      rw [← show n = (σ.1 5).toNat by omega] at h
      rcases hI with ⟨-, e, e2⟩ | ⟨-, e⟩
      · rw [e] at h; rw [e2]; exact h
      · rw [e] at h; exact h
    | succ j ih =>
      intro n hn le any hI
      have ih := ih (n + 1) (by omega)
      have nx : ∀ le any, (any = 0 ∧ lcs σ (σ.1 42) (n + 1) = none ∧ le = 0 ∨ any = 1 ∧ lcs σ (σ.1 42) (n + 1) = some le) → tvW mX1_leastCost d K 57 [some (xR mR), some (xI le), some (xI any), some (xI (n : Int))] [] (ov σ G0) bc bs := by
        intro le any hI
        refine w_inc3 (pc' := 60) dX1_leastCost_57 rfl rfl ⟨by first | omega | (simp (decide := true) only [au_1, nu_2, au_lt, nu_lt, aw_e, nw_e, au_s, au_n, nu_s, nu_n, au_au, nu_nu, au_nu]; omega), by first | omega | (simp (decide := true) only [au_1, nu_2, au_lt, nu_lt, aw_e, nw_e, au_s, au_n, nu_s, nu_n, au_au, nu_nu, au_nu]; omega)⟩ ?_
        refine w_goto (tgt := 6) dX1_leastCost_60 rfl ?_
        -- at 6: .iload_n 3
        try simp (decide := true) only [au_1, nu_2, au_lt, nu_lt, aw_e, nw_e, au_s, au_n, nu_s, nu_n, au_au, nu_nu, au_nu]
        exact ih le any hI
      have ltake : (any = 0 ∨ σ.2 2 n < le) → σ.2 39 (40 * σ.1 42 + n) ≠ 0 → tvW mX1_leastCost d K 48 [some (xR mR), some (xI le), some (xI any), some (xI (n : Int))] [] (ov σ G0) bc bs := by
        intro q1 q2
        refine w_aload_n (pc' := 49) dX1_leastCost_48 rfl rfl ?_
        refine w_mga 2 (pc' := 52) dX1_leastCost_49 rfl fX1_16_1 rfl ?_
        refine w_iload_n (pc' := 53) dX1_leastCost_52 rfl rfl ?_
        refine w_mild (pc' := 54) dX1_leastCost_53 rfl rfl (by first | omega | (simp (decide := true) only [au_1, nu_2, au_lt, nu_lt, aw_e, nw_e, au_s, au_n, nu_s, nu_n, au_au, nu_nu, au_nu]; omega)) (by first | omega | (simp (decide := true) only [au_1, nu_2, au_lt, nu_lt, aw_e, nw_e, au_s, au_n, nu_s, nu_n, au_au, nu_nu, au_nu]; omega)) ?_
        refine w_ist1 (pc' := 55) dX1_leastCost_54 rfl rfl ?_
        refine w_iconst (pc' := 56) dX1_leastCost_55 rfl (by decide) ?_
        refine w_ist2 (pc' := 57) dX1_leastCost_56 rfl rfl ?_
        -- at 57: .iinc 3 1
        try simp (decide := true) only [au_1, nu_2, au_lt, nu_lt, aw_e, nw_e, au_s, au_n, nu_s, nu_n, au_au, nu_nu, au_nu]
        refine nx _ _ (Or.inr ⟨rfl, ?_⟩)
        rw [lcs_s]
        rw [if_neg q2]
        rcases hI with ⟨-, e, e2⟩ | ⟨e0, e⟩
        · rw [e]
        · rw [e]
          simp only
          rw [if_neg (by omega)]
      refine w_iload_n (pc' := 7) dX1_leastCost_6 rfl rfl ?_
      refine w_aload_n (pc' := 8) dX1_leastCost_7 rfl rfl ?_
      refine w_mgi 5 (pc' := 11) dX1_leastCost_8 rfl fX1_128_1 rfl ?_
      -- at 11: .if_icmp .ge 52
      try simp (decide := true) only [au_1, nu_2, au_lt, nu_lt, aw_e, nw_e, au_s, au_n, nu_s, nu_n, au_au, nu_nu, au_nu]
      refine w_icmp_ge (pc' := 14) (tgt := 63) dX1_leastCost_11 rfl rfl (fun h_ => False.elim (by first | omega | (simp (decide := true) only [au_1, nu_2, au_lt, nu_lt, aw_e, nw_e, au_s, au_n, nu_s, nu_n, au_au, nu_nu, au_nu] at h_; omega))) (fun h_ => ?_)
      refine w_aload_n (pc' := 15) dX1_leastCost_14 rfl rfl ?_
      refine w_mga 39 (pc' := 18) dX1_leastCost_15 rfl fX1_100_1 rfl ?_
      refine w_bipush (pc' := 20) dX1_leastCost_18 rfl (by decide +kernel) (by decide) ?_
      refine w_aload_n (pc' := 21) dX1_leastCost_20 rfl rfl ?_
      refine w_mgi 42 (pc' := 24) dX1_leastCost_21 rfl fX1_294_1 rfl ?_
      refine w_imul (pc' := 25) dX1_leastCost_24 rfl ⟨by first | omega | (simp (decide := true) only [au_1, nu_2, au_lt, nu_lt, aw_e, nw_e, au_s, au_n, nu_s, nu_n, au_au, nu_nu, au_nu]; omega), by first | omega | (simp (decide := true) only [au_1, nu_2, au_lt, nu_lt, aw_e, nw_e, au_s, au_n, nu_s, nu_n, au_au, nu_nu, au_nu]; omega)⟩ ?_
      refine w_iload_n (pc' := 26) dX1_leastCost_25 rfl rfl ?_
      refine w_iadd (pc' := 27) dX1_leastCost_26 rfl ⟨by first | omega | (simp (decide := true) only [au_1, nu_2, au_lt, nu_lt, aw_e, nw_e, au_s, au_n, nu_s, nu_n, au_au, nu_nu, au_nu]; omega), by first | omega | (simp (decide := true) only [au_1, nu_2, au_lt, nu_lt, aw_e, nw_e, au_s, au_n, nu_s, nu_n, au_au, nu_nu, au_nu]; omega)⟩ ?_
      refine w_mild (pc' := 28) dX1_leastCost_27 rfl rfl (by first | omega | (simp (decide := true) only [au_1, nu_2, au_lt, nu_lt, aw_e, nw_e, au_s, au_n, nu_s, nu_n, au_au, nu_nu, au_nu]; omega)) (by first | omega | (simp (decide := true) only [au_1, nu_2, au_lt, nu_lt, aw_e, nw_e, au_s, au_n, nu_s, nu_n, au_au, nu_nu, au_nu]; omega)) ?_
      -- at 28: .ifCond .eq 29
      try simp (decide := true) only [au_1, nu_2, au_lt, nu_lt, aw_e, nw_e, au_s, au_n, nu_s, nu_n, au_au, nu_nu, au_nu]
      refine w_if_eq (pc' := 31) (tgt := 57) dX1_leastCost_28 rfl rfl (fun g => ?_) (fun g => ?_)
      · refine nx le any ?_
        rw [lcs_s]
        rw [if_pos g]
        exact hI
      · refine w_iload_n (pc' := 32) dX1_leastCost_31 rfl rfl ?_
        -- at 32: .ifCond .eq 16
        try simp (decide := true) only [au_1, nu_2, au_lt, nu_lt, aw_e, nw_e, au_s, au_n, nu_s, nu_n, au_au, nu_nu, au_nu]
        refine w_if_eq (pc' := 35) (tgt := 48) dX1_leastCost_32 rfl rfl (fun g2 => ?_) (fun g2 => ?_)
        · exact ltake (Or.inl g2) g
        · refine w_aload_n (pc' := 36) dX1_leastCost_35 rfl rfl ?_
          refine w_mga 2 (pc' := 39) dX1_leastCost_36 rfl fX1_16_1 rfl ?_
          refine w_iload_n (pc' := 40) dX1_leastCost_39 rfl rfl ?_
          refine w_mild (pc' := 41) dX1_leastCost_40 rfl rfl (by first | omega | (simp (decide := true) only [au_1, nu_2, au_lt, nu_lt, aw_e, nw_e, au_s, au_n, nu_s, nu_n, au_au, nu_nu, au_nu]; omega)) (by first | omega | (simp (decide := true) only [au_1, nu_2, au_lt, nu_lt, aw_e, nw_e, au_s, au_n, nu_s, nu_n, au_au, nu_nu, au_nu]; omega)) ?_
          refine w_iload_n (pc' := 42) dX1_leastCost_41 rfl rfl ?_
          -- at 42: .if_icmp .lt 6
          try simp (decide := true) only [au_1, nu_2, au_lt, nu_lt, aw_e, nw_e, au_s, au_n, nu_s, nu_n, au_au, nu_nu, au_nu]
          refine w_icmp_lt (pc' := 45) (tgt := 48) dX1_leastCost_42 rfl rfl (fun g3 => ?_) (fun g3 => ?_)
          · exact ltake (Or.inr g3) g
          · refine w_goto (tgt := 57) dX1_leastCost_45 rfl ?_
            -- at 57: .iinc 3 1
            try simp (decide := true) only [au_1, nu_2, au_lt, nu_lt, aw_e, nw_e, au_s, au_n, nu_s, nu_n, au_au, nu_nu, au_nu]
            refine nx le any ?_
            rcases hI with ⟨e, -⟩ | ⟨e0, e⟩
            · omega
            · refine Or.inr ⟨e0, ?_⟩
              rw [lcs_s]
              rw [if_neg g, e]
              simp only
              rw [if_pos (by omega)]
  exact loop (σ.1 5).toNat 0 (by omega) 0 0 (Or.inl ⟨rfl, rfl, rfl⟩)
end
