set_option maxRecDepth 10000
/-- states that differ in some fields alone -/
def frS (S : List Nat) (σ τ : MS) : Prop := (∀ k, k ∉ S → τ.1 k = σ.1 k) ∧ ∀ k, k ∉ S → τ.2 k = σ.2 k
theorem frS_r {S : List Nat} {σ : MS} : frS S σ σ := ⟨fun _ _ => rfl, fun _ _ => rfl⟩
theorem frS_n {S : List Nat} {σ τ : MS} {k : Nat} {v : Int} (hk : k ∈ S) (h : frS S σ τ) : frS S σ (nu τ k v) := ⟨fun j hj => by rw [nu_n (j := j) (k := k) (fun e => hj (by rw [e]; exact hk))]; exact h.1 j hj, h.2⟩
theorem frS_a {S : List Nat} {σ τ : MS} {k : Nat} {f : Int → Int} (hk : k ∈ S) (h : frS S σ τ) : frS S σ (au τ k f) := ⟨h.1, fun j hj => by rw [au_n (j := j) (k := k) (fun e => hj (by rw [e]; exact hk))]; exact h.2 j hj⟩
abbrev scS : List Nat := [38, 41, 42, 43, 44, 45, 46, 47, 48, 49, 50, 51, 52, 53, 54]
noncomputable def lst_ (σ : MS) (f byc : Int) : Int := if byc ≠ 0 then (lcs σ f (σ.1 5).toNat).getD 0 else 0
noncomputable def srA (σ : MS) (f most byc : Int) : SA := srch σ f most byc (lst_ σ f byc) (ne_ σ f (fun _ => 0)).toNat (fun _ => 0) (cutl σ (fun k => σ.2 39 (40 * f + k))) 0 (0, σ.1 41, 0, -1, 0, fun _ => 0)
noncomputable def resA (σ : MS) (f most byc : Int) : SA := @ite SA (gdB σ f) (Classical.propDecidable _) (srA σ f most byc) (0, σ.1 41, 0, -1, 0, fun _ => 0)
theorem shF_0 {σ : MS} {f : Int} : shF σ f (zfl σ f) (fun _ => 0) = zfl σ f := by
  funext z
  unfold shF
  by_cases h : opB σ f (z - 64 * f)
  · rw [ic_t h]
    unfold zfl
    rw [if_pos h.1]
  · rw [ic_f h]
section
variable {d : Nat} {K : Option XV → GH → Prop} {G0 G : GH} {bc bs : Nat} {σ : MS} {M : tv_M} {pc pc' : Nat} {L : List (Option XV)} {st : List XV}
theorem c_X1_search {most byc : Int} (hK : kok σ) (hF : fo1 σ) (hf : 0 ≤ σ.1 42 ∧ σ.1 42 < σ.1 40) (hO : OP σ (σ.1 42) (σ.1 43) (σ.2 46)) (hm : 1 ≤ most ∧ most ≤ 1000000) (hb : bok σ (σ.1 42) (σ.2 44)) (hl : lok σ (σ.2 45)) (hne : ne_ σ (σ.1 42) (σ.2 44) = σ.1 43) (hli : 0 ≤ σ.1 41 ∧ σ.1 41 ≤ 600000) (hz : shF σ (σ.1 42) (σ.2 38) (fun _ => 0) = σ.2 38)
    (h : ∀ (A : SA) (b l dp dt : Int → Int) (dep co : Int), A = srch σ (σ.1 42) most byc (lst_ σ (σ.1 42) byc) (σ.1 43).toNat (cut σ (σ.1 42) (σ.2 44)) (cutl σ (σ.2 45)) 0 (0, σ.1 41, 0, -1, 0, fun _ => 0) → accOk most A → K none (ov (nu (nu (nu (nu (nu (nu (nu (au (au (au (au (au σ 38 (shF σ (σ.1 42) (σ.2 38) (A).2.2.2.2.2)) 44 (b)) 45 (l)) 47 (dp)) 48 (dt)) 41 (A).2.1) 49 (dep)) 50 (A).1) 51 (A).2.2.1) 52 (co)) 53 (A).2.2.2.1) 54 (A).2.2.2.2.1) G0)) :
    tvW mX1_search (d + 6) K 0 [some (xR mR), some (xI most), some (xI byc), none, none, none, none] [] (ov σ G0) bc bs := by
  have hN := hO.1
  have main : ∀ least, least = lst_ σ (σ.1 42) byc → (0 ≤ least ∧ least ≤ 1000) → tvW mX1_search (d + 6) K 42 [some (xR mR), some (xI most), some (xI byc), none, none, none, none] [xI least] (ov (nu (nu (nu (nu (nu (nu σ 49 0) 50 0) 51 0) 52 0) 53 (-1)) 54 0) G0) bc bs := by
    intro least he hle
    refine w_ist3 (pc' := 43) dX1_search_42 rfl rfl ?_
    refine w_iconst (pc' := 44) dX1_search_43 rfl (by decide) ?_
    refine w_ist4 (pc' := 46) dX1_search_44 rfl rfl ?_
    -- at 46: .aload_n 0
    try simp (decide := true) only [au_1, nu_2, au_lt, nu_lt, aw_e, nw_e, au_s, au_n, nu_s, nu_n, au_au, nu_nu, au_nu]
    have ao : accOk most (0, σ.1 41, 0, -1, 0, fun _ => 0) := by
      refine ⟨⟨?_, ?_⟩, hli, ⟨?_, ?_⟩, ⟨?_, ?_⟩, Or.inl rfl⟩
      · show (0 : Int) ≤ 0; omega
      · show (0 : Int) ≤ 30000; omega
      · show (0 : Int) ≤ 0; omega
      · show (0 : Int) ≤ most; omega
      · show (-1 : Int) ≤ -1; omega
      · show (-1 : Int) ≤ 100000; omega
    have ae : ¬ endA most (0, σ.1 41, 0, -1, 0, fun _ => 0) := by
      rintro (q | q)
      · have q : (0 : Int) = 1 := q
        omega
      · have q : (0 : Int) = most := q
        omega
    have hs := c_X1_search_n (d := d) (K := K) (G0 := G0) (bc := bc) (bs := bs) (byc := byc) hK hF hf hO hm hle (σ.1 43).toNat 0 (σ.2 44) (σ.2 45) (σ.2 47) (σ.2 48) 0 (0, σ.1 41, 0, -1, 0, fun _ => 0) none none (by omega) (by omega) (by omega) hb hl ⟨by omega, by omega⟩ ao ae ?_ ?_
    · refine w_ms ?_ hs
      simp only [hz]
      rw [au_id, au_id, au_id, au_id, au_id, nu_id]
    · intro dp' dt' A' x5 x6 hA hE hao _
      obtain ⟨a1, a2, a3, a4, a5⟩ := hao
      have e1 : (A').2.2.2.2.1 = 0 := by
        rcases a5 with q | q
        · exact q
        · exact absurd (Or.inl q) hE
      have e2 : (A').2.2.1 ≠ most := fun q => hE (Or.inr q)
      have hh := h A' (σ.2 44) (σ.2 45) dp' dt' 0 0 (by rw [← he]; exact hA.symm) ⟨a1, a2, a3, a4, a5⟩
      refine w_aload_n (pc' := 47) dX1_search_46 rfl rfl ?_
      refine w_mgi 51 (pc' := 50) dX1_search_47 rfl fX1_319_1 rfl ?_
      refine w_iload_n (pc' := 51) dX1_search_50 rfl rfl ?_
      -- at 51: .if_icmp .ge 326
      try simp (decide := true) only [au_1, nu_2, au_lt, nu_lt, aw_e, nw_e, au_s, au_n, nu_s, nu_n, au_au, nu_nu, au_nu]
      refine w_icmp_ge (pc' := 54) (tgt := 377) dX1_search_51 rfl rfl (fun h_ => False.elim (by first | omega | (simp (decide := true) only [au_1, nu_2, au_lt, nu_lt, aw_e, nw_e, au_s, au_n, nu_s, nu_n, au_au, nu_nu, au_nu] at h_; omega))) (fun h_ => ?_)
      refine w_aload_n (pc' := 55) dX1_search_54 rfl rfl ?_
      refine w_mgi 54 (pc' := 58) dX1_search_55 rfl fX1_325_1 rfl ?_
      -- at 58: .ifCond .ne 319
      try simp (decide := true) only [au_1, nu_2, au_lt, nu_lt, aw_e, nw_e, au_s, au_n, nu_s, nu_n, au_au, nu_nu, au_nu]
      rw [e1] at hh ⊢
      refine w_if_ne (pc' := 61) (tgt := 377) dX1_search_58 rfl rfl (fun h_ => False.elim (by first | omega | (simp (decide := true) only [au_1, nu_2, au_lt, nu_lt, aw_e, nw_e, au_s, au_n, nu_s, nu_n, au_au, nu_nu, au_nu] at h_; omega))) (fun h_ => ?_)
      refine w_iload (pc' := 63) dX1_search_61 rfl rfl ?_
      -- at 63: .ifCond .ne 10
      try simp (decide := true) only [au_1, nu_2, au_lt, nu_lt, aw_e, nw_e, au_s, au_n, nu_s, nu_n, au_au, nu_nu, au_nu]
      refine w_if_ne (pc' := 66) (tgt := 73) dX1_search_63 rfl rfl (fun h_ => False.elim (by first | omega | (simp (decide := true) only [au_1, nu_2, au_lt, nu_lt, aw_e, nw_e, au_s, au_n, nu_s, nu_n, au_au, nu_nu, au_nu] at h_; omega))) (fun h_ => ?_)
      refine w_aload_n (pc' := 67) dX1_search_66 rfl rfl ?_
      refine w_mgi 49 (pc' := 70) dX1_search_67 rfl fX1_329_1 rfl ?_
      -- at 70: .ifCond .le 307
      try simp (decide := true) only [au_1, nu_2, au_lt, nu_lt, aw_e, nw_e, au_s, au_n, nu_s, nu_n, au_au, nu_nu, au_nu]
      refine w_if_le (pc' := 73) (tgt := 377) dX1_search_70 rfl rfl (fun h_ => ?_) (fun h_ => False.elim (by first | omega | (simp (decide := true) only [au_1, nu_2, au_lt, nu_lt, aw_e, nw_e, au_s, au_n, nu_s, nu_n, au_au, nu_nu, au_nu] at h_; omega)))
      refine w_return dX1_search_377 rfl ?_
      exact hh
    · intro b' l' dp' dt' dep' co' dn A' x5 x6 hA hE hao
      obtain ⟨a1, a2, a3, a4, a5⟩ := hao
      have hh := h A' b' l' dp' dt' dep' co' (by rw [← he]; exact hA.symm) ⟨a1, a2, a3, a4, a5⟩
      refine w_aload_n (pc' := 47) dX1_search_46 rfl rfl ?_
      refine w_mgi 51 (pc' := 50) dX1_search_47 rfl fX1_319_1 rfl ?_
      refine w_iload_n (pc' := 51) dX1_search_50 rfl rfl ?_
      -- at 51: .if_icmp .ge 326
      try simp (decide := true) only [au_1, nu_2, au_lt, nu_lt, aw_e, nw_e, au_s, au_n, nu_s, nu_n, au_au, nu_nu, au_nu]
      refine w_icmp_ge (pc' := 54) (tgt := 377) dX1_search_51 rfl rfl (fun g => ?_) (fun g => ?_)
      · refine w_return dX1_search_377 rfl ?_
        exact hh
      · refine w_aload_n (pc' := 55) dX1_search_54 rfl rfl ?_
        refine w_mgi 54 (pc' := 58) dX1_search_55 rfl fX1_325_1 rfl ?_
        -- at 58: .ifCond .ne 319
        try simp (decide := true) only [au_1, nu_2, au_lt, nu_lt, aw_e, nw_e, au_s, au_n, nu_s, nu_n, au_au, nu_nu, au_nu]
        refine w_if_ne (pc' := 61) (tgt := 377) dX1_search_58 rfl rfl (fun g2 => ?_) (fun g2 => ?_)
        · refine w_return dX1_search_377 rfl ?_
          exact hh
        · rcases hE with q | q
          · omega
          · omega
  refine w_aload_n (pc' := 1) dX1_search_0 rfl rfl ?_
  refine w_iconst (pc' := 2) dX1_search_1 rfl (by decide) ?_
  refine w_nup 50 (pc' := 5) dX1_search_2 rfl pX1_316_1 rfl trivial ?_
  try simp (decide := true) only [au_1, nu_2, au_lt, nu_lt, aw_e, nw_e, au_s, au_n, nu_s, nu_n, au_au, nu_nu, au_nu]
  refine w_aload_n (pc' := 6) dX1_search_5 rfl rfl ?_
  refine w_iconst (pc' := 7) dX1_search_6 rfl (by decide) ?_
  refine w_nup 51 (pc' := 10) dX1_search_7 rfl pX1_319_1 rfl trivial ?_
  try simp (decide := true) only [au_1, nu_2, au_lt, nu_lt, aw_e, nw_e, au_s, au_n, nu_s, nu_n, au_au, nu_nu, au_nu]
  refine w_aload_n (pc' := 11) dX1_search_10 rfl rfl ?_
  refine w_iconst (pc' := 12) dX1_search_11 rfl (by decide) ?_
  refine w_nup 52 (pc' := 15) dX1_search_12 rfl pX1_313_1 rfl trivial ?_
  try simp (decide := true) only [au_1, nu_2, au_lt, nu_lt, aw_e, nw_e, au_s, au_n, nu_s, nu_n, au_au, nu_nu, au_nu]
  refine w_aload_n (pc' := 16) dX1_search_15 rfl rfl ?_
  refine w_iconst (pc' := 17) dX1_search_16 rfl (by decide) ?_
  refine w_nup 53 (pc' := 20) dX1_search_17 rfl pX1_322_1 rfl trivial ?_
  try simp (decide := true) only [au_1, nu_2, au_lt, nu_lt, aw_e, nw_e, au_s, au_n, nu_s, nu_n, au_au, nu_nu, au_nu]
  refine w_aload_n (pc' := 21) dX1_search_20 rfl rfl ?_
  refine w_iconst (pc' := 22) dX1_search_21 rfl (by decide) ?_
  refine w_nup 54 (pc' := 25) dX1_search_22 rfl pX1_325_1 rfl (Or.inl rfl) ?_
  try simp (decide := true) only [au_1, nu_2, au_lt, nu_lt, aw_e, nw_e, au_s, au_n, nu_s, nu_n, au_au, nu_nu, au_nu]
  refine w_aload_n (pc' := 26) dX1_search_25 rfl rfl ?_
  refine w_iconst (pc' := 27) dX1_search_26 rfl (by decide) ?_
  refine w_nup 49 (pc' := 30) dX1_search_27 rfl pX1_329_1 rfl trivial ?_
  try simp (decide := true) only [au_1, nu_2, au_lt, nu_lt, aw_e, nw_e, au_s, au_n, nu_s, nu_n, au_au, nu_nu, au_nu]
  refine w_iload_n (pc' := 31) dX1_search_30 rfl rfl ?_
  -- at 31: .ifCond .eq 10
  try simp (decide := true) only [au_1, nu_2, au_lt, nu_lt, aw_e, nw_e, au_s, au_n, nu_s, nu_n, au_au, nu_nu, au_nu]
  refine w_if_eq (pc' := 34) (tgt := 41) dX1_search_31 rfl rfl (fun g => ?_) (fun g => ?_)
  · refine w_iconst (pc' := 42) dX1_search_41 rfl (by decide) ?_
    -- at 42: .istore_n 3
    try simp (decide := true) only [au_1, nu_2, au_lt, nu_lt, aw_e, nw_e, au_s, au_n, nu_s, nu_n, au_au, nu_nu, au_nu]
    refine main 0 ?_ ⟨by omega, by omega⟩
    unfold lst_
    rw [if_neg (fun q => q g)]
  · refine w_aload_n (pc' := 35) dX1_search_34 rfl rfl ?_
    -- at 35: .invokevirtual 332
    try simp (decide := true) only [au_1, nu_2, au_lt, nu_lt, aw_e, nw_e, au_s, au_n, nu_s, nu_n, au_au, nu_nu, au_nu]
    refine w_callV0 (pc' := 38) (mc := 0) (ms := 0) dX1_search_35 rfl tX1_leastCost q1533 rfl rfl qs71 q1531 ov_o rfl (Nat.le_of_ble_eq_true rfl) (Nat.le_of_ble_eq_true rfl) ?_
    refine c_X1_leastCost (show kok _ from hK) (show fo1 _ from hF) hf ?_
    refine w_p1 ?_
    refine w_goto (tgt := 42) dX1_search_38 rfl ?_
    -- at 42: .istore_n 3
    try simp (decide := true) only [au_1, nu_2, au_lt, nu_lt, aw_e, nw_e, au_s, au_n, nu_s, nu_n, au_au, nu_nu, au_nu]
    refine main _ ?_ ?_
    · unfold lst_
      rw [if_pos g]
      rfl
    · cases hq : lcs σ (σ.1 42) (σ.1 5).toNat with
      | none => exact ⟨by show (0 : Int) ≤ Option.getD (lcs σ (σ.1 42) (σ.1 5).toNat) 0; rw [hq]; decide, by show Option.getD (lcs σ (σ.1 42) (σ.1 5).toNat) 0 ≤ 1000; rw [hq]; decide⟩
      | some v =>
        have := lcs_r (f := σ.1 42) hK (σ.1 5).toNat (by have := hK.1; omega) v hq
        exact ⟨by show (0 : Int) ≤ Option.getD (lcs σ (σ.1 42) (σ.1 5).toNat) 0; rw [hq]; exact this.1, by show Option.getD (lcs σ (σ.1 42) (σ.1 5).toNat) 0 ≤ 1000; rw [hq]; exact this.2⟩
theorem st_facts {f N : Int} {b l g : Int → Int} (hF : fo1 σ) (hf : 0 ≤ f ∧ f < σ.1 40) (hK : kok σ) (hb : cut σ f b = fun _ => 0) (hl : cutl σ l = cutl σ (fun k => σ.2 39 (40 * f + k))) (hg : OP σ f N g) :
    bok σ f b ∧ lok σ l ∧ ne_ σ f b = N ∧ ∀ most byc, srch σ f most byc (lst_ σ f byc) N.toNat (cut σ f b) (cutl σ l) 0 (0, σ.1 41, 0, -1, 0, fun _ => 0) = srA σ f most byc := by
  obtain ⟨hR, hC, ht, hS⟩ := hF.2 f hf.1 hf.2
  have hK1 := hK.1
  have hN := OP_ct hg hR.2
  refine ⟨fun k k0 k1 k2 => ?_, fun k k0 k1 => ?_, ?_, fun most byc => ?_⟩
  · have : cut σ f b k = 0 := by rw [hb]
    rw [cut_in (show inF σ f k from ⟨k0, k1, k2⟩)] at this
    omega
  · have : cutl σ l k = cutl σ (fun k => σ.2 39 (40 * f + k)) k := by rw [hl]
    rw [cutl_in ⟨k0, k1⟩, cutl_in ⟨k0, k1⟩] at this
    rw [this]
    exact hS k k0 (by omega)
  · rw [← ne_cut, hb]; exact hN
  · rw [hb, hl, ← hN]; rfl
theorem resA_t {f most byc : Int} (h : gdB σ f) : resA σ f most byc = srA σ f most byc := @if_pos _ (Classical.propDecidable _) h _ _ _
theorem resA_f {f most byc : Int} (h : ¬ gdB σ f) : resA σ f most byc = (0, σ.1 41, 0, -1, 0, fun _ => 0) := @if_neg _ (Classical.propDecidable _) h _ _ _
theorem frS_st {f N : Int} {fl b l g : Int → Int} : frS scS σ (nu (nu (au (au (au (au σ 38 (fl)) 44 (b)) 45 (l)) 46 (g)) 42 f) 43 (N)) := frS_n (by decide) (frS_n (by decide) (frS_a (by decide) (frS_a (by decide) (frS_a (by decide) (frS_a (by decide) frS_r)))))
theorem frS_S {τ : MS} {x41 x49 x50 x51 x52 x53 x54 : Int} {x38 x44 x45 x47 x48 : Int → Int} (h : frS scS σ τ) : frS scS σ (nu (nu (nu (nu (nu (nu (nu (au (au (au (au (au τ 38 x38) 44 x44) 45 x45) 47 x47) 48 x48) 41 x41) 49 x49) 50 x50) 51 x51) 52 x52) 53 x53) 54 x54) :=
  frS_n (by decide) (frS_n (by decide) (frS_n (by decide) (frS_n (by decide) (frS_n (by decide) (frS_n (by decide) (frS_n (by decide) (frS_a (by decide) (frS_a (by decide) (frS_a (by decide) (frS_a (by decide) (frS_a (by decide) h)))))))))))

theorem c_X1_fill {f : Int} (hK : kok σ) (hF : fok σ) (hli : 0 ≤ σ.1 41 ∧ σ.1 41 ≤ 600000) (h1 : 0 ≤ f ∧ f < σ.1 40 → ∀ τ, frS scS σ τ → τ.2 38 = shF σ f (zfl σ f) (resA σ f 1 0).2.2.2.2.2 → τ.1 41 = (resA σ f 1 0).2.1 → K (some (xI (if 0 < (resA σ f 1 0).2.2.1 then 1 else if (resA σ f 1 0).2.2.2.2.1 = 1 then 2 else 0))) (ov τ G0)) (h0 : ¬ (0 ≤ f ∧ f < σ.1 40) → K (some (xI (-1))) (ov σ G0)) : tvW mX1_fill (d + 7) K 0 [some (xR mR), some (xI f)] [] (ov σ G0) bc bs := by
  have hF1 := hF.1.1
  have bad : ¬ (0 ≤ f ∧ f < σ.1 40) → tvW mX1_fill (d + 7) K 8 [some (xR mR), some (xI f)] [] (ov σ G0) bc bs := by
    intro q
    refine w_iconst (pc' := 9) dX1_fill_8 rfl (by decide) ?_
    -- at 9: .ireturn
    try simp (decide := true) only [au_1, nu_2, au_lt, nu_lt, aw_e, nw_e, au_s, au_n, nu_s, nu_n, au_au, nu_nu, au_nu]
    refine w_ireturn dX1_fill_9 rfl ?_
    exact h0 q
  refine w_aload_n (pc' := 1) dX1_fill_0 rfl rfl ?_
  refine w_iload_n (pc' := 2) dX1_fill_1 rfl rfl ?_
  refine w_callV1 (pc' := 5) (mc := 0) (ms := 0) dX1_fill_2 rfl tX1_isFloor q1501 rfl rfl qs66 q1499 ov_o rfl (Nat.le_of_ble_eq_true rfl) (Nat.le_of_ble_eq_true rfl) ?_
  refine c_X1_isFloor  (fun g2a g2b => w_p1 ?_) (fun g2 => w_p1 ?_)
  rotate_left
  · refine w_if_ne (pc' := 8) (tgt := 10) dX1_fill_5 rfl rfl (fun h_ => False.elim (by omega)) (fun h_ => ?_)
    exact bad (by omega)
  refine w_if_ne (pc' := 8) (tgt := 10) dX1_fill_5 rfl rfl (fun h_ => ?_) (fun h_ => False.elim (by omega))
  -- at 10: .aload_n 0
  have hf : 0 ≤ f ∧ f < σ.1 40 := ⟨g2a, g2b⟩
  have h1 := h1 (by omega)
  refine w_aload_n (pc' := 11) dX1_fill_10 rfl rfl ?_
  refine w_iload_n (pc' := 12) dX1_fill_11 rfl rfl ?_
  -- at 12: .invokevirtual 351
  try simp (decide := true) only [au_1, nu_2, au_lt, nu_lt, aw_e, nw_e, au_s, au_n, nu_s, nu_n, au_au, nu_nu, au_nu]
  refine w_callV1 (pc' := 15) (mc := 0) (ms := 0) dX1_fill_12 rfl tX1_starts q1517 rfl rfl qs67 q1515 ov_o rfl (Nat.le_of_ble_eq_true rfl) (Nat.le_of_ble_eq_true rfl) ?_
  refine c_X1_starts hK hF.1 hf (fun v b l g N hv hb hl hg => w_p1 ?_)
  obtain ⟨f1, f2, f3, f4⟩ := st_facts hF.1 hf hK hb hl hg
  rcases hv with ⟨rfl, hgd⟩ | ⟨rfl, hgd⟩
  · rw [resA_t hgd] at h1
    refine w_if_ne (pc' := 18) (tgt := 20) dX1_fill_15 rfl rfl (fun h_ => ?_) (fun h_ => False.elim (by first | omega | (simp (decide := true) only [au_1, nu_2, au_lt, nu_lt, aw_e, nw_e, au_s, au_n, nu_s, nu_n, au_au, nu_nu, au_nu] at h_; omega)))
    refine w_aload_n (pc' := 21) dX1_fill_20 rfl rfl ?_
    refine w_iconst (pc' := 22) dX1_fill_21 rfl (by decide) ?_
    refine w_iconst (pc' := 23) dX1_fill_22 rfl (by decide) ?_
    -- at 23: .invokevirtual 354
    try simp (decide := true) only [au_1, nu_2, au_lt, nu_lt, aw_e, nw_e, au_s, au_n, nu_s, nu_n, au_au, nu_nu, au_nu]
    refine w_callV2 (pc' := 26) (mc := 0) (ms := 0) dX1_fill_23 rfl tX1_search q1529 rfl rfl qs70 q1527 ov_o rfl (Nat.le_of_ble_eq_true rfl) (Nat.le_of_ble_eq_true rfl) ?_
    refine c_X1_search (show kok _ from hK) (show fo1 _ from hF.1) (show 0 ≤ f ∧ f < σ.1 40 from hf) (show OP _ f N g from hg) ⟨by omega, by omega⟩ (show bok _ f b from f1) (show lok _ l from f2) (show ne_ _ f b = N from f3) (show 0 ≤ σ.1 41 ∧ σ.1 41 ≤ 600000 from hli) (shF_0 (σ := σ) (f := f)) (fun A b' l' dp dt dep co hA hao => w_p0 ?_)
    have hA : A = srA σ f 1 0 := hA.trans (f4 _ _)
    rw [← hA] at h1
    have h1 := h1 _ (frS_S (τ := (nu (nu (au (au (au (au σ 38 ((zfl σ f))) 44 (b)) 45 (l)) 46 (g)) 42 f) 43 (N))) (x41 := (A).2.1) (x49 := dep) (x50 := (A).1) (x51 := (A).2.2.1) (x52 := co) (x53 := (A).2.2.2.1) (x54 := (A).2.2.2.2.1) (x38 := shF σ f (zfl σ f) (A).2.2.2.2.2) (x44 := b') (x45 := l') (x47 := dp) (x48 := dt) frS_st) rfl rfl
    obtain ⟨a1, a2, a3, a4, a5⟩ := hao
    try simp (decide := true) only [au_1, nu_2, au_lt, nu_lt, aw_e, nw_e, au_s, au_n, nu_s, nu_n, au_au, nu_nu, au_nu] at h1
    refine w_aload_n (pc' := 27) dX1_fill_26 rfl rfl ?_
    refine w_mgi 51 (pc' := 30) dX1_fill_27 rfl fX1_319_1 rfl ?_
    -- at 30: .ifCond .le 7
    try simp (decide := true) only [au_1, nu_2, au_lt, nu_lt, aw_e, nw_e, au_s, au_n, nu_s, nu_n, au_au, nu_nu, au_nu]
    refine w_if_le (pc' := 33) (tgt := 37) dX1_fill_30 rfl rfl (fun g1 => ?_) (fun g1 => ?_)
    · rw [if_neg (by omega)] at h1
      refine w_aload_n (pc' := 38) dX1_fill_37 rfl rfl ?_
      refine w_mgi 54 (pc' := 41) dX1_fill_38 rfl fX1_325_1 rfl ?_
      -- at 41: .ifCond .eq 7
      try simp (decide := true) only [au_1, nu_2, au_lt, nu_lt, aw_e, nw_e, au_s, au_n, nu_s, nu_n, au_au, nu_nu, au_nu]
      refine w_if_eq (pc' := 44) (tgt := 48) dX1_fill_41 rfl rfl (fun g2 => ?_) (fun g2 => ?_)
      · rw [if_neg (by omega)] at h1
        refine w_iconst (pc' := 49) dX1_fill_48 rfl (by decide) ?_
        -- at 49: .ireturn
        try simp (decide := true) only [au_1, nu_2, au_lt, nu_lt, aw_e, nw_e, au_s, au_n, nu_s, nu_n, au_au, nu_nu, au_nu]
        refine w_ireturn dX1_fill_49 rfl ?_
        exact h1
      · rw [if_pos (by omega)] at h1
        refine w_iconst (pc' := 45) dX1_fill_44 rfl (by decide) ?_
        refine w_goto (tgt := 49) dX1_fill_45 rfl ?_
        -- at 49: .ireturn
        try simp (decide := true) only [au_1, nu_2, au_lt, nu_lt, aw_e, nw_e, au_s, au_n, nu_s, nu_n, au_au, nu_nu, au_nu]
        refine w_ireturn dX1_fill_49 rfl ?_
        exact h1
    · rw [if_pos (by omega)] at h1
      refine w_iconst (pc' := 34) dX1_fill_33 rfl (by decide) ?_
      refine w_goto (tgt := 49) dX1_fill_34 rfl ?_
      -- at 49: .ireturn
      try simp (decide := true) only [au_1, nu_2, au_lt, nu_lt, aw_e, nw_e, au_s, au_n, nu_s, nu_n, au_au, nu_nu, au_nu]
      refine w_ireturn dX1_fill_49 rfl ?_
      exact h1
  · rw [resA_f hgd] at h1
    have h1 := h1 _ (frS_st (f := f) (fl := zfl σ f) (b := b) (l := l) (g := g) (N := N)) (by show zfl σ f = shF σ f (zfl σ f) (fun _ => 0); rw [shF_0]) rfl
    refine w_if_ne (pc' := 18) (tgt := 20) dX1_fill_15 rfl rfl (fun h_ => False.elim (by first | omega | (simp (decide := true) only [au_1, nu_2, au_lt, nu_lt, aw_e, nw_e, au_s, au_n, nu_s, nu_n, au_au, nu_nu, au_nu] at h_; omega))) (fun h_ => ?_)
    refine w_iconst (pc' := 19) dX1_fill_18 rfl (by decide) ?_
    -- at 19: .ireturn
    try simp (decide := true) only [au_1, nu_2, au_lt, nu_lt, aw_e, nw_e, au_s, au_n, nu_s, nu_n, au_au, nu_nu, au_nu]
    refine w_ireturn dX1_fill_19 rfl ?_
    exact h1

theorem c_X1_fills {f m : Int} (hK : kok σ) (hF : fok σ) (hli : 0 ≤ σ.1 41 ∧ σ.1 41 ≤ 600000) (h1 : (0 ≤ f ∧ f < σ.1 40) ∧ 1 ≤ m ∧ m ≤ 1000 → ∀ τ, frS scS σ τ → τ.2 38 = shF σ f (zfl σ f) (resA σ f m 0).2.2.2.2.2 → τ.1 41 = (resA σ f m 0).2.1 → K (some (xI (if (resA σ f m 0).2.2.2.2.1 = 1 then -2 else (resA σ f m 0).2.2.1))) (ov τ G0)) (h0 : ¬ ((0 ≤ f ∧ f < σ.1 40) ∧ 1 ≤ m ∧ m ≤ 1000) → K (some (xI (-1))) (ov σ G0)) : tvW mX1_fills (d + 7) K 0 [some (xR mR), some (xI f), some (xI m)] [] (ov σ G0) bc bs := by
  have hF1 := hF.1.1
  have bad : ¬ ((0 ≤ f ∧ f < σ.1 40) ∧ 1 ≤ m ∧ m ≤ 1000) → tvW mX1_fills (d + 7) K 20 [some (xR mR), some (xI f), some (xI m)] [] (ov σ G0) bc bs := by
    intro q
    refine w_iconst (pc' := 21) dX1_fills_20 rfl (by decide) ?_
    -- at 21: .ireturn
    try simp (decide := true) only [au_1, nu_2, au_lt, nu_lt, aw_e, nw_e, au_s, au_n, nu_s, nu_n, au_au, nu_nu, au_nu]
    refine w_ireturn dX1_fills_21 rfl ?_
    exact h0 q
  refine w_aload_n (pc' := 1) dX1_fills_0 rfl rfl ?_
  refine w_iload_n (pc' := 2) dX1_fills_1 rfl rfl ?_
  refine w_callV1 (pc' := 5) (mc := 0) (ms := 0) dX1_fills_2 rfl tX1_isFloor q1501 rfl rfl qs66 q1499 ov_o rfl (Nat.le_of_ble_eq_true rfl) (Nat.le_of_ble_eq_true rfl) ?_
  refine c_X1_isFloor  (fun g2a g2b => w_p1 ?_) (fun g2 => w_p1 ?_)
  rotate_left
  · refine w_if_eq (pc' := 8) (tgt := 20) dX1_fills_5 rfl rfl (fun h_ => ?_) (fun h_ => False.elim (by omega))
    exact bad (by omega)
  refine w_if_eq (pc' := 8) (tgt := 20) dX1_fills_5 rfl rfl (fun h_ => False.elim (by omega)) (fun h_ => ?_)
  refine w_iload_n (pc' := 9) dX1_fills_8 rfl rfl ?_
  refine w_iconst (pc' := 10) dX1_fills_9 rfl (by decide) ?_
  refine w_icmp_lt (pc' := 13) (tgt := 20) dX1_fills_10 rfl rfl (fun g10 => by exact bad (by omega)) (fun g10 => ?_)
  refine w_iload_n (pc' := 14) dX1_fills_13 rfl rfl ?_
  refine w_sipush (pc' := 17) dX1_fills_14 rfl (by decide +kernel) (by decide) ?_
  refine w_icmp_le (pc' := 20) (tgt := 22) dX1_fills_17 rfl rfl (fun g17 => ?_) (fun g17 => by exact bad (by omega))
  -- at 22: .aload_n 0
  have hf : 0 ≤ f ∧ f < σ.1 40 := ⟨g2a, g2b⟩
  have h1 := h1 (by omega)
  refine w_aload_n (pc' := 23) dX1_fills_22 rfl rfl ?_
  refine w_iload_n (pc' := 24) dX1_fills_23 rfl rfl ?_
  -- at 24: .invokevirtual 351
  try simp (decide := true) only [au_1, nu_2, au_lt, nu_lt, aw_e, nw_e, au_s, au_n, nu_s, nu_n, au_au, nu_nu, au_nu]
  refine w_callV1 (pc' := 27) (mc := 0) (ms := 0) dX1_fills_24 rfl tX1_starts q1517 rfl rfl qs67 q1515 ov_o rfl (Nat.le_of_ble_eq_true rfl) (Nat.le_of_ble_eq_true rfl) ?_
  refine c_X1_starts hK hF.1 hf (fun v b l g N hv hb hl hg => w_p1 ?_)
  obtain ⟨f1, f2, f3, f4⟩ := st_facts hF.1 hf hK hb hl hg
  rcases hv with ⟨rfl, hgd⟩ | ⟨rfl, hgd⟩
  · rw [resA_t hgd] at h1
    refine w_if_ne (pc' := 30) (tgt := 32) dX1_fills_27 rfl rfl (fun h_ => ?_) (fun h_ => False.elim (by first | omega | (simp (decide := true) only [au_1, nu_2, au_lt, nu_lt, aw_e, nw_e, au_s, au_n, nu_s, nu_n, au_au, nu_nu, au_nu] at h_; omega)))
    refine w_aload_n (pc' := 33) dX1_fills_32 rfl rfl ?_
    refine w_iload_n (pc' := 34) dX1_fills_33 rfl rfl ?_
    refine w_iconst (pc' := 35) dX1_fills_34 rfl (by decide) ?_
    -- at 35: .invokevirtual 354
    try simp (decide := true) only [au_1, nu_2, au_lt, nu_lt, aw_e, nw_e, au_s, au_n, nu_s, nu_n, au_au, nu_nu, au_nu]
    refine w_callV2 (pc' := 38) (mc := 0) (ms := 0) dX1_fills_35 rfl tX1_search q1529 rfl rfl qs70 q1527 ov_o rfl (Nat.le_of_ble_eq_true rfl) (Nat.le_of_ble_eq_true rfl) ?_
    refine c_X1_search (show kok _ from hK) (show fo1 _ from hF.1) (show 0 ≤ f ∧ f < σ.1 40 from hf) (show OP _ f N g from hg) ⟨by omega, by omega⟩ (show bok _ f b from f1) (show lok _ l from f2) (show ne_ _ f b = N from f3) (show 0 ≤ σ.1 41 ∧ σ.1 41 ≤ 600000 from hli) (shF_0 (σ := σ) (f := f)) (fun A b' l' dp dt dep co hA hao => w_p0 ?_)
    have hA : A = srA σ f m 0 := hA.trans (f4 _ _)
    rw [← hA] at h1
    have h1 := h1 _ (frS_S (τ := (nu (nu (au (au (au (au σ 38 ((zfl σ f))) 44 (b)) 45 (l)) 46 (g)) 42 f) 43 (N))) (x41 := (A).2.1) (x49 := dep) (x50 := (A).1) (x51 := (A).2.2.1) (x52 := co) (x53 := (A).2.2.2.1) (x54 := (A).2.2.2.2.1) (x38 := shF σ f (zfl σ f) (A).2.2.2.2.2) (x44 := b') (x45 := l') (x47 := dp) (x48 := dt) frS_st) rfl rfl
    obtain ⟨a1, a2, a3, a4, a5⟩ := hao
    try simp (decide := true) only [au_1, nu_2, au_lt, nu_lt, aw_e, nw_e, au_s, au_n, nu_s, nu_n, au_au, nu_nu, au_nu] at h1
    refine w_aload_n (pc' := 39) dX1_fills_38 rfl rfl ?_
    refine w_mgi 54 (pc' := 42) dX1_fills_39 rfl fX1_325_1 rfl ?_
    -- at 42: .ifCond .eq 8
    try simp (decide := true) only [au_1, nu_2, au_lt, nu_lt, aw_e, nw_e, au_s, au_n, nu_s, nu_n, au_au, nu_nu, au_nu]
    refine w_if_eq (pc' := 45) (tgt := 50) dX1_fills_42 rfl rfl (fun g1 => ?_) (fun g1 => ?_)
    · rw [if_neg (by omega)] at h1
      refine w_aload_n (pc' := 51) dX1_fills_50 rfl rfl ?_
      refine w_mgi 51 (pc' := 54) dX1_fills_51 rfl fX1_319_1 rfl ?_
      -- at 54: .ireturn
      try simp (decide := true) only [au_1, nu_2, au_lt, nu_lt, aw_e, nw_e, au_s, au_n, nu_s, nu_n, au_au, nu_nu, au_nu]
      refine w_ireturn dX1_fills_54 rfl ?_
      exact h1
    · rw [if_pos (by omega)] at h1
      refine w_bipush (pc' := 47) dX1_fills_45 rfl (by decide +kernel) (by decide) ?_
      refine w_goto (tgt := 54) dX1_fills_47 rfl ?_
      -- at 54: .ireturn
      try simp (decide := true) only [au_1, nu_2, au_lt, nu_lt, aw_e, nw_e, au_s, au_n, nu_s, nu_n, au_au, nu_nu, au_nu]
      refine w_ireturn dX1_fills_54 rfl ?_
      exact h1
  · rw [resA_f hgd] at h1
    have h1 := h1 _ (frS_st (f := f) (fl := zfl σ f) (b := b) (l := l) (g := g) (N := N)) (by show zfl σ f = shF σ f (zfl σ f) (fun _ => 0); rw [shF_0]) rfl
    refine w_if_ne (pc' := 30) (tgt := 32) dX1_fills_27 rfl rfl (fun h_ => False.elim (by first | omega | (simp (decide := true) only [au_1, nu_2, au_lt, nu_lt, aw_e, nw_e, au_s, au_n, nu_s, nu_n, au_au, nu_nu, au_nu] at h_; omega))) (fun h_ => ?_)
    refine w_iconst (pc' := 31) dX1_fills_30 rfl (by decide) ?_
    -- at 31: .ireturn
    try simp (decide := true) only [au_1, nu_2, au_lt, nu_lt, aw_e, nw_e, au_s, au_n, nu_s, nu_n, au_au, nu_nu, au_nu]
    refine w_ireturn dX1_fills_31 rfl ?_
    exact h1

theorem c_X1_cheapest {f : Int} (hK : kok σ) (hF : fok σ) (hli : 0 ≤ σ.1 41 ∧ σ.1 41 ≤ 600000) (h1 : 0 ≤ f ∧ f < σ.1 40 → ∀ τ, frS scS σ τ → τ.2 38 = shF σ f (zfl σ f) (resA σ f 1000000 1).2.2.2.2.2 → τ.1 41 = (resA σ f 1000000 1).2.1 → K (some (xI (if (resA σ f 1000000 1).2.2.2.2.1 = 1 then -3 else if 0 < (resA σ f 1000000 1).2.2.1 then (resA σ f 1000000 1).2.2.2.1 else -2))) (ov τ G0)) (h0 : ¬ (0 ≤ f ∧ f < σ.1 40) → K (some (xI (-1))) (ov σ G0)) : tvW mX1_cheapest (d + 7) K 0 [some (xR mR), some (xI f)] [] (ov σ G0) bc bs := by
  have hF1 := hF.1.1
  have bad : ¬ (0 ≤ f ∧ f < σ.1 40) → tvW mX1_cheapest (d + 7) K 8 [some (xR mR), some (xI f)] [] (ov σ G0) bc bs := by
    intro q
    refine w_iconst (pc' := 9) dX1_cheapest_8 rfl (by decide) ?_
    -- at 9: .ireturn
    try simp (decide := true) only [au_1, nu_2, au_lt, nu_lt, aw_e, nw_e, au_s, au_n, nu_s, nu_n, au_au, nu_nu, au_nu]
    refine w_ireturn dX1_cheapest_9 rfl ?_
    exact h0 q
  refine w_aload_n (pc' := 1) dX1_cheapest_0 rfl rfl ?_
  refine w_iload_n (pc' := 2) dX1_cheapest_1 rfl rfl ?_
  refine w_callV1 (pc' := 5) (mc := 0) (ms := 0) dX1_cheapest_2 rfl tX1_isFloor q1501 rfl rfl qs66 q1499 ov_o rfl (Nat.le_of_ble_eq_true rfl) (Nat.le_of_ble_eq_true rfl) ?_
  refine c_X1_isFloor  (fun g2a g2b => w_p1 ?_) (fun g2 => w_p1 ?_)
  rotate_left
  · refine w_if_ne (pc' := 8) (tgt := 10) dX1_cheapest_5 rfl rfl (fun h_ => False.elim (by omega)) (fun h_ => ?_)
    exact bad (by omega)
  refine w_if_ne (pc' := 8) (tgt := 10) dX1_cheapest_5 rfl rfl (fun h_ => ?_) (fun h_ => False.elim (by omega))
  -- at 10: .aload_n 0
  have hf : 0 ≤ f ∧ f < σ.1 40 := ⟨g2a, g2b⟩
  have h1 := h1 (by omega)
  refine w_aload_n (pc' := 11) dX1_cheapest_10 rfl rfl ?_
  refine w_iload_n (pc' := 12) dX1_cheapest_11 rfl rfl ?_
  -- at 12: .invokevirtual 351
  try simp (decide := true) only [au_1, nu_2, au_lt, nu_lt, aw_e, nw_e, au_s, au_n, nu_s, nu_n, au_au, nu_nu, au_nu]
  refine w_callV1 (pc' := 15) (mc := 0) (ms := 0) dX1_cheapest_12 rfl tX1_starts q1517 rfl rfl qs67 q1515 ov_o rfl (Nat.le_of_ble_eq_true rfl) (Nat.le_of_ble_eq_true rfl) ?_
  refine c_X1_starts hK hF.1 hf (fun v b l g N hv hb hl hg => w_p1 ?_)
  obtain ⟨f1, f2, f3, f4⟩ := st_facts hF.1 hf hK hb hl hg
  rcases hv with ⟨rfl, hgd⟩ | ⟨rfl, hgd⟩
  · rw [resA_t hgd] at h1
    refine w_if_ne (pc' := 18) (tgt := 21) dX1_cheapest_15 rfl rfl (fun h_ => ?_) (fun h_ => False.elim (by first | omega | (simp (decide := true) only [au_1, nu_2, au_lt, nu_lt, aw_e, nw_e, au_s, au_n, nu_s, nu_n, au_au, nu_nu, au_nu] at h_; omega)))
    refine w_aload_n (pc' := 22) dX1_cheapest_21 rfl rfl ?_
    refine w_ldcw (z := 1000000) (pc' := 25) dX1_cheapest_22 rfl q1568 (by decide +kernel) (by decide) ?_
    refine w_iconst (pc' := 26) dX1_cheapest_25 rfl (by decide) ?_
    -- at 26: .invokevirtual 354
    try simp (decide := true) only [au_1, nu_2, au_lt, nu_lt, aw_e, nw_e, au_s, au_n, nu_s, nu_n, au_au, nu_nu, au_nu]
    refine w_callV2 (pc' := 29) (mc := 0) (ms := 0) dX1_cheapest_26 rfl tX1_search q1529 rfl rfl qs70 q1527 ov_o rfl (Nat.le_of_ble_eq_true rfl) (Nat.le_of_ble_eq_true rfl) ?_
    refine c_X1_search (show kok _ from hK) (show fo1 _ from hF.1) (show 0 ≤ f ∧ f < σ.1 40 from hf) (show OP _ f N g from hg) ⟨by omega, by omega⟩ (show bok _ f b from f1) (show lok _ l from f2) (show ne_ _ f b = N from f3) (show 0 ≤ σ.1 41 ∧ σ.1 41 ≤ 600000 from hli) (shF_0 (σ := σ) (f := f)) (fun A b' l' dp dt dep co hA hao => w_p0 ?_)
    have hA : A = srA σ f 1000000 1 := hA.trans (f4 _ _)
    rw [← hA] at h1
    have h1 := h1 _ (frS_S (τ := (nu (nu (au (au (au (au σ 38 ((zfl σ f))) 44 (b)) 45 (l)) 46 (g)) 42 f) 43 (N))) (x41 := (A).2.1) (x49 := dep) (x50 := (A).1) (x51 := (A).2.2.1) (x52 := co) (x53 := (A).2.2.2.1) (x54 := (A).2.2.2.2.1) (x38 := shF σ f (zfl σ f) (A).2.2.2.2.2) (x44 := b') (x45 := l') (x47 := dp) (x48 := dt) frS_st) rfl rfl
    obtain ⟨a1, a2, a3, a4, a5⟩ := hao
    try simp (decide := true) only [au_1, nu_2, au_lt, nu_lt, aw_e, nw_e, au_s, au_n, nu_s, nu_n, au_au, nu_nu, au_nu] at h1
    refine w_aload_n (pc' := 30) dX1_cheapest_29 rfl rfl ?_
    refine w_mgi 54 (pc' := 33) dX1_cheapest_30 rfl fX1_325_1 rfl ?_
    -- at 33: .ifCond .eq 8
    try simp (decide := true) only [au_1, nu_2, au_lt, nu_lt, aw_e, nw_e, au_s, au_n, nu_s, nu_n, au_au, nu_nu, au_nu]
    refine w_if_eq (pc' := 36) (tgt := 41) dX1_cheapest_33 rfl rfl (fun g1 => ?_) (fun g1 => ?_)
    · rw [if_neg (by omega)] at h1
      refine w_aload_n (pc' := 42) dX1_cheapest_41 rfl rfl ?_
      refine w_mgi 51 (pc' := 45) dX1_cheapest_42 rfl fX1_319_1 rfl ?_
      -- at 45: .ifCond .le 10
      try simp (decide := true) only [au_1, nu_2, au_lt, nu_lt, aw_e, nw_e, au_s, au_n, nu_s, nu_n, au_au, nu_nu, au_nu]
      refine w_if_le (pc' := 48) (tgt := 55) dX1_cheapest_45 rfl rfl (fun g2 => ?_) (fun g2 => ?_)
      · rw [if_neg (by omega)] at h1
        refine w_bipush (pc' := 57) dX1_cheapest_55 rfl (by decide +kernel) (by decide) ?_
        -- at 57: .ireturn
        try simp (decide := true) only [au_1, nu_2, au_lt, nu_lt, aw_e, nw_e, au_s, au_n, nu_s, nu_n, au_au, nu_nu, au_nu]
        refine w_ireturn dX1_cheapest_57 rfl ?_
        exact h1
      · rw [if_pos (by omega)] at h1
        refine w_aload_n (pc' := 49) dX1_cheapest_48 rfl rfl ?_
        refine w_mgi 53 (pc' := 52) dX1_cheapest_49 rfl fX1_322_1 rfl ?_
        refine w_goto (tgt := 57) dX1_cheapest_52 rfl ?_
        -- at 57: .ireturn
        try simp (decide := true) only [au_1, nu_2, au_lt, nu_lt, aw_e, nw_e, au_s, au_n, nu_s, nu_n, au_au, nu_nu, au_nu]
        refine w_ireturn dX1_cheapest_57 rfl ?_
        exact h1
    · rw [if_pos (by omega)] at h1
      refine w_bipush (pc' := 38) dX1_cheapest_36 rfl (by decide +kernel) (by decide) ?_
      refine w_goto (tgt := 57) dX1_cheapest_38 rfl ?_
      -- at 57: .ireturn
      try simp (decide := true) only [au_1, nu_2, au_lt, nu_lt, aw_e, nw_e, au_s, au_n, nu_s, nu_n, au_au, nu_nu, au_nu]
      refine w_ireturn dX1_cheapest_57 rfl ?_
      exact h1
  · rw [resA_f hgd] at h1
    have h1 := h1 _ (frS_st (f := f) (fl := zfl σ f) (b := b) (l := l) (g := g) (N := N)) (by show zfl σ f = shF σ f (zfl σ f) (fun _ => 0); rw [shF_0]) rfl
    refine w_if_ne (pc' := 18) (tgt := 21) dX1_cheapest_15 rfl rfl (fun h_ => False.elim (by first | omega | (simp (decide := true) only [au_1, nu_2, au_lt, nu_lt, aw_e, nw_e, au_s, au_n, nu_s, nu_n, au_au, nu_nu, au_nu] at h_; omega))) (fun h_ => ?_)
    refine w_bipush (pc' := 20) dX1_cheapest_18 rfl (by decide +kernel) (by decide) ?_
    -- at 20: .ireturn
    try simp (decide := true) only [au_1, nu_2, au_lt, nu_lt, aw_e, nw_e, au_s, au_n, nu_s, nu_n, au_au, nu_nu, au_nu]
    refine w_ireturn dX1_cheapest_20 rfl ?_
    exact h1
def aAbout (σ : MS) (w : Int) : Int := if w = 0 then σ.1 5 else if w = 1 then σ.1 12 else if w = 2 then σ.1 29 else if w = 3 then σ.1 40 else if w = 4 then σ.1 9 else if w = 5 then σ.1 24 else if w = 6 then σ.1 25 else if w = 7 then σ.1 16 else if w = 8 then σ.1 41 else -1
theorem c_X1_about {w : Int} (h : K (some (xI (aAbout σ w))) (ov σ G0)) : tvW mX1_about d K 0 [some (xR mR), some (xI w)] [] (ov σ G0) bc bs := by
  unfold aAbout at h
  refine w_iload_n (pc' := 1) dX1_about_0 rfl rfl ?_
  -- at 1: .tableswitch 96 0 8 #[51, 56, 61, 66, 71, 76, 81, 86, 91]
  try simp (decide := true) only [au_1, nu_2, au_lt, nu_lt, aw_e, nw_e, au_s, au_n, nu_s, nu_n, au_au, nu_nu, au_nu]
  by_cases hw : 0 ≤ w ∧ w ≤ 8
  · have h9 : w = 0 ∨ w = 1 ∨ w = 2 ∨ w = 3 ∨ w = 4 ∨ w = 5 ∨ w = 6 ∨ w = 7 ∨ w = 8 := by omega
    rcases h9 with rfl | rfl | rfl | rfl | rfl | rfl | rfl | rfl | rfl
    · refine w_tableIn (tgt := 52) 0 dX1_about_1 rfl (by decide) (by decide) rfl rfl ?_
      refine w_aload_n (pc' := 53) dX1_about_52 rfl rfl ?_
      refine w_mgi 5 (pc' := 56) dX1_about_53 rfl fX1_128_1 rfl ?_
      -- at 56: .ireturn
      try simp (decide := true) only [au_1, nu_2, au_lt, nu_lt, aw_e, nw_e, au_s, au_n, nu_s, nu_n, au_au, nu_nu, au_nu]
      refine w_ireturn dX1_about_56 rfl ?_
      exact h
    · refine w_tableIn (tgt := 57) 1 dX1_about_1 rfl (by decide) (by decide) rfl rfl ?_
      refine w_aload_n (pc' := 58) dX1_about_57 rfl rfl ?_
      refine w_mgi 12 (pc' := 61) dX1_about_58 rfl fX1_169_1 rfl ?_
      -- at 61: .ireturn
      try simp (decide := true) only [au_1, nu_2, au_lt, nu_lt, aw_e, nw_e, au_s, au_n, nu_s, nu_n, au_au, nu_nu, au_nu]
      refine w_ireturn dX1_about_61 rfl ?_
      exact h
    · refine w_tableIn (tgt := 62) 2 dX1_about_1 rfl (by decide) (by decide) rfl rfl ?_
      refine w_aload_n (pc' := 63) dX1_about_62 rfl rfl ?_
      refine w_mgi 29 (pc' := 66) dX1_about_63 rfl fX1_238_1 rfl ?_
      -- at 66: .ireturn
      try simp (decide := true) only [au_1, nu_2, au_lt, nu_lt, aw_e, nw_e, au_s, au_n, nu_s, nu_n, au_au, nu_nu, au_nu]
      refine w_ireturn dX1_about_66 rfl ?_
      exact h
    · refine w_tableIn (tgt := 67) 3 dX1_about_1 rfl (by decide) (by decide) rfl rfl ?_
      refine w_aload_n (pc' := 68) dX1_about_67 rfl rfl ?_
      refine w_mgi 40 (pc' := 71) dX1_about_68 rfl fX1_285_1 rfl ?_
      -- at 71: .ireturn
      try simp (decide := true) only [au_1, nu_2, au_lt, nu_lt, aw_e, nw_e, au_s, au_n, nu_s, nu_n, au_au, nu_nu, au_nu]
      refine w_ireturn dX1_about_71 rfl ?_
      exact h
    · refine w_tableIn (tgt := 72) 4 dX1_about_1 rfl (by decide) (by decide) rfl rfl ?_
      refine w_aload_n (pc' := 73) dX1_about_72 rfl rfl ?_
      refine w_mgi 9 (pc' := 76) dX1_about_73 rfl fX1_172_1 rfl ?_
      -- at 76: .ireturn
      try simp (decide := true) only [au_1, nu_2, au_lt, nu_lt, aw_e, nw_e, au_s, au_n, nu_s, nu_n, au_au, nu_nu, au_nu]
      refine w_ireturn dX1_about_76 rfl ?_
      exact h
    · refine w_tableIn (tgt := 77) 5 dX1_about_1 rfl (by decide) (by decide) rfl rfl ?_
      refine w_aload_n (pc' := 78) dX1_about_77 rfl rfl ?_
      refine w_mgi 24 (pc' := 81) dX1_about_78 rfl fX1_221_1 rfl ?_
      -- at 81: .ireturn
      try simp (decide := true) only [au_1, nu_2, au_lt, nu_lt, aw_e, nw_e, au_s, au_n, nu_s, nu_n, au_au, nu_nu, au_nu]
      refine w_ireturn dX1_about_81 rfl ?_
      exact h
    · refine w_tableIn (tgt := 82) 6 dX1_about_1 rfl (by decide) (by decide) rfl rfl ?_
      refine w_aload_n (pc' := 83) dX1_about_82 rfl rfl ?_
      refine w_mgi 25 (pc' := 86) dX1_about_83 rfl fX1_224_1 rfl ?_
      -- at 86: .ireturn
      try simp (decide := true) only [au_1, nu_2, au_lt, nu_lt, aw_e, nw_e, au_s, au_n, nu_s, nu_n, au_au, nu_nu, au_nu]
      refine w_ireturn dX1_about_86 rfl ?_
      exact h
    · refine w_tableIn (tgt := 87) 7 dX1_about_1 rfl (by decide) (by decide) rfl rfl ?_
      refine w_aload_n (pc' := 88) dX1_about_87 rfl rfl ?_
      refine w_mgi 16 (pc' := 91) dX1_about_88 rfl fX1_184_1 rfl ?_
      -- at 91: .ireturn
      try simp (decide := true) only [au_1, nu_2, au_lt, nu_lt, aw_e, nw_e, au_s, au_n, nu_s, nu_n, au_au, nu_nu, au_nu]
      refine w_ireturn dX1_about_91 rfl ?_
      exact h
    · refine w_tableIn (tgt := 92) 8 dX1_about_1 rfl (by decide) (by decide) rfl rfl ?_
      refine w_aload_n (pc' := 93) dX1_about_92 rfl rfl ?_
      refine w_mgi 41 (pc' := 96) dX1_about_93 rfl fX1_344_1 rfl ?_
      -- at 96: .ireturn
      try simp (decide := true) only [au_1, nu_2, au_lt, nu_lt, aw_e, nw_e, au_s, au_n, nu_s, nu_n, au_au, nu_nu, au_nu]
      refine w_ireturn dX1_about_96 rfl ?_
      exact h
  · refine w_tableOut (tgt := 97) dX1_about_1 rfl (by omega) ?_
    rw [if_neg (by omega), if_neg (by omega), if_neg (by omega), if_neg (by omega), if_neg (by omega), if_neg (by omega), if_neg (by omega), if_neg (by omega), if_neg (by omega)] at h
    refine w_iconst (pc' := 98) dX1_about_97 rfl (by decide) ?_
    -- at 98: .ireturn
    try simp (decide := true) only [au_1, nu_2, au_lt, nu_lt, aw_e, nw_e, au_s, au_n, nu_s, nu_n, au_au, nu_nu, au_nu]
    refine w_ireturn dX1_about_98 rfl ?_
    exact h
end
