set_option maxRecDepth 10000
/-! lists (java.util.ArrayList) -/
theorem rl_ne {a b : Nat} {c d e f : Int} (h : a ≠ b ∨ c ≠ d ∨ e ≠ f) : ((a, c, e) : Rl) ≠ (b, d, f) := by
  intro q
  rw [Prod.mk.injEq, Prod.mk.injEq] at q
  omega
section
variable {M : tv_M} {d : Nat} {K : Option XV → GH → Prop} {pc pc' : Nat} {L : List (Option XV)} {st : List XV} {G : GH} {bc bs : Nat}
theorem w_upd {r : Rl} {e : XE} (k : ∀ G' : GH, G' r = some e → (∀ q, q ≠ r → G' q = G q) → tvW M d K pc L st G' bc bs) : tvW M d K pc L st (gset G r e) bc bs := k _ (gset_s _ _ _) (fun _ h => gset_n h)
theorem w_mmax {idx : Nat} {x y : Int} (hd : decode M.1 pc = .ok (.invokestatic idx, 3)) (hp : pc + 3 = pc') (hlk : Cond.methodLink M.2.2.1 idx Lib.Math.max.name ∈ lw_all) (h8 : (st.map tv_cat).sum ≤ 8) (kk : tvW M (d + 1) K pc' L (xI (if x < y then y else x) :: st) G bc bs) : tvW M (d + 1) K pc L (xI y :: xI x :: st) G bc bs := by
  intro O ad0 G0 p l e R s m args below meth c Q E ad dom H locs cells slots ls S
  obtain ⟨hR, hst, hL, hlv, hlen, hS, hxt, hc, hs⟩ := S
  subst hp
  have E0 := E
  obtain ⟨hx, hb, hml, hown, hts, hini, hW, hO, hrm, hfr, hret⟩ := E
  obtain ⟨h0, hst⟩ := tv_oks_c.mp hst
  obtain ⟨h1, hst⟩ := tv_oks_c.mp hst
  have kk := kk O ad0 G0 p l e R s m args below meth c Q E0 ad dom H locs cells slots ls ⟨hR, tv_oks_c.mpr ⟨by show rg _; split <;> assumption, hst⟩, hL, hlv, hlen, hS, hxt, hc, hs⟩
  have h8' := tv_rest (ad := ad) h8
  refine va_mmax hx hb (by rw [hml]; exact hlv.1.symm) hown (hts _ hlk) (hts _ q276) (hts _ q88) (hts _ q277) (by omega) (by omega) (by omega) (by omega) hd ?_
  rw [List.map_cons, show tv_e ad (xI (if x < y then y else x)) = .int (if Int32.ofInt x < Int32.ofInt y then Int32.ofInt y else Int32.ofInt x) by
    show Value.int (Int32.ofInt (if x < y then y else x)) = _
    by_cases q : x < y
    · rw [if_pos q, if_pos ((e_lt h1 h0).mpr q)]
    · rw [if_neg q, if_neg (fun z => q ((e_lt h1 h0).mp z))]] at kk
  exact kk
theorem w_mmin {idx : Nat} {x y : Int} (hd : decode M.1 pc = .ok (.invokestatic idx, 3)) (hp : pc + 3 = pc') (hlk : Cond.methodLink M.2.2.1 idx Lib.Math.min.name ∈ lw_all) (h8 : (st.map tv_cat).sum ≤ 8) (kk : tvW M (d + 1) K pc' L (xI (if y < x then y else x) :: st) G bc bs) : tvW M (d + 1) K pc L (xI y :: xI x :: st) G bc bs := by
  intro O ad0 G0 p l e R s m args below meth c Q E ad dom H locs cells slots ls S
  obtain ⟨hR, hst, hL, hlv, hlen, hS, hxt, hc, hs⟩ := S
  subst hp
  have E0 := E
  obtain ⟨hx, hb, hml, hown, hts, hini, hW, hO, hrm, hfr, hret⟩ := E
  obtain ⟨h0, hst⟩ := tv_oks_c.mp hst
  obtain ⟨h1, hst⟩ := tv_oks_c.mp hst
  have kk := kk O ad0 G0 p l e R s m args below meth c Q E0 ad dom H locs cells slots ls ⟨hR, tv_oks_c.mpr ⟨by show rg _; split <;> assumption, hst⟩, hL, hlv, hlen, hS, hxt, hc, hs⟩
  have h8' := tv_rest (ad := ad) h8
  refine va_mmin hx hb (by rw [hml]; exact hlv.1.symm) hown (hts _ hlk) (hts _ q308) (hts _ q88) (hts _ q309) (by omega) (by omega) (by omega) (by omega) hd ?_
  rw [List.map_cons, show tv_e ad (xI (if y < x then y else x)) = .int (if Int32.ofInt y < Int32.ofInt x then Int32.ofInt y else Int32.ofInt x) by
    show Value.int (Int32.ofInt (if y < x then y else x)) = _
    by_cases q : y < x
    · rw [if_pos q, if_pos ((e_lt h0 h1).mpr q)]
    · rw [if_neg q, if_neg (fun z => q ((e_lt h0 h1).mp z))]] at kk
  exact kk
theorem w_mabs {idx : Nat} {x : Int} (hd : decode M.1 pc = .ok (.invokestatic idx, 3)) (hp : pc + 3 = pc') (hlk : Cond.methodLink M.2.2.1 idx Lib.Math.abs.name ∈ lw_all) (hr : rg (-x)) (h8 : (st.map tv_cat).sum ≤ 8) (kk : tvW M (d + 1) K pc' L (xI (if 0 ≤ x then x else -x) :: st) G bc bs) : tvW M (d + 1) K pc L (xI x :: st) G bc bs := by
  intro O ad0 G0 p l e R s m args below meth c Q E ad dom H locs cells slots ls S
  obtain ⟨hR, hst, hL, hlv, hlen, hS, hxt, hc, hs⟩ := S
  subst hp
  have E0 := E
  obtain ⟨hx, hb, hml, hown, hts, hini, hW, hO, hrm, hfr, hret⟩ := E
  obtain ⟨h0, hst⟩ := tv_oks_c.mp hst
  have kk := kk O ad0 G0 p l e R s m args below meth c Q E0 ad dom H locs cells slots ls ⟨hR, tv_oks_c.mpr ⟨by show rg _; split <;> assumption, hst⟩, hL, hlv, hlen, hS, hxt, hc, hs⟩
  have h8' := tv_rest (ad := ad) h8
  refine va_mabs hx hb (by rw [hml]; exact hlv.1.symm) hown (hts _ hlk) (hts _ q653) (hts _ q88) (hts _ q654) (by omega) (by omega) (by omega) (by omega) hd ?_
  rw [List.map_cons, show tv_e ad (xI (if 0 ≤ x then x else -x)) = .int (if (0 : Int32) ≤ Int32.ofInt x then Int32.ofInt x else 0 - Int32.ofInt x) by
    show Value.int (Int32.ofInt (if 0 ≤ x then x else -x)) = _
    rw [e_0]
    by_cases q : 0 ≤ x
    · rw [if_pos q, if_pos ((e_le (by decide) h0).mpr q)]
    · rw [if_neg q, if_neg (fun z => q ((e_le (by decide) h0).mp z)), ← Int32.ofInt_sub, Int.zero_sub]] at kk
  exact kk
end
section
variable {d : Nat} {K : Option XV → GH → Prop} {G : GH} {bc bs : Nat}
theorem c_J4_checkIndex {i n : Int} {o : XV} (h0 : 0 ≤ i) (h1 : i < n) (h : K (some (xI i)) G) : tvW mJ4_checkIndex d K 0 [some (xI i), some (xI n), some o] [] G bc bs := by
  refine w_iload_n (pc' := 1) dJ4_checkIndex_0 rfl rfl ?_
  -- at 1: .ifCond .lt 8
  refine w_if_lt (pc' := 4) (tgt := 9) dJ4_checkIndex_1 rfl rfl (fun h_ => False.elim (by first | omega | (simp (decide := true) only [au_1, nu_2, au_lt, nu_lt, aw_e, nw_e, au_s, au_n, nu_s, nu_n, au_au, nu_nu, au_nu] at h_; omega))) (fun h_ => ?_)
  refine w_iload_n (pc' := 5) dJ4_checkIndex_4 rfl rfl ?_
  refine w_iload_n (pc' := 6) dJ4_checkIndex_5 rfl rfl ?_
  -- at 6: .if_icmp .lt 10
  refine w_icmp_lt (pc' := 9) (tgt := 16) dJ4_checkIndex_6 rfl rfl (fun h_ => ?_) (fun h_ => False.elim (by first | omega | (simp (decide := true) only [au_1, nu_2, au_lt, nu_lt, aw_e, nw_e, au_s, au_n, nu_s, nu_n, au_au, nu_nu, au_nu] at h_; omega)))
  refine w_iload_n (pc' := 17) dJ4_checkIndex_16 rfl rfl ?_
  -- at 17: .ireturn
  refine w_ireturn dJ4_checkIndex_17 rfl ?_
  exact h
theorem c_J3_checkIndex {i n : Int} (h0 : 0 ≤ i) (h1 : i < n) (h : K (some (xI i)) G) : tvW mJ3_checkIndex (d + 1) K 0 [some (xI i), some (xI n)] [] G bc bs := by
  refine w_iload_n (pc' := 1) dJ3_checkIndex_0 rfl rfl ?_
  refine w_iload_n (pc' := 2) dJ3_checkIndex_1 rfl rfl ?_
  refine w_null (pc' := 3) dJ3_checkIndex_2 rfl ?_
  -- at 3: .invokestatic 105
  refine w_callS3 (pc' := 6) (mc := 0) (ms := 0) dJ3_checkIndex_3 rfl tJ4_checkIndex q218 q217 rfl (Nat.le_of_ble_eq_true rfl) (Nat.le_of_ble_eq_true rfl) ?_
  refine c_J4_checkIndex h0 h1 ?_
  refine w_p1 ?_
  refine w_ireturn dJ3_checkIndex_6 rfl ?_
  exact h
theorem c_J5_newLength {o x y : Int} (h0 : 0 < o + (if x < y then y else x)) (h1 : o + (if x < y then y else x) ≤ 2147483639) (h : K (some (xI (o + (if x < y then y else x)))) G) : tvW mJ5_newLength (d + 1) K 0 [some (xI o), some (xI x), some (xI y), none] [] G bc bs := by
  have hz : ∃ z, z = if x < y then y else x := ⟨_, rfl⟩
  obtain ⟨z, hz⟩ := hz
  rw [← hz] at h h0 h1
  refine w_iload_n (pc' := 1) dJ5_newLength_0 rfl rfl ?_
  refine w_iload_n (pc' := 2) dJ5_newLength_1 rfl rfl ?_
  refine w_iload_n (pc' := 3) dJ5_newLength_2 rfl rfl ?_
  refine w_mmax (pc' := 6) dJ5_newLength_3 rfl q275 (Nat.le_of_ble_eq_true rfl) ?_
  -- at 6: .iadd
  rw [← hz]
  refine w_iadd (pc' := 7) dJ5_newLength_6 rfl ⟨by first | omega | (simp (decide := true) only [au_1, nu_2, au_lt, nu_lt, aw_e, nw_e, au_s, au_n, nu_s, nu_n, au_au, nu_nu, au_nu]; omega), by first | omega | (simp (decide := true) only [au_1, nu_2, au_lt, nu_lt, aw_e, nw_e, au_s, au_n, nu_s, nu_n, au_au, nu_nu, au_nu]; omega)⟩ ?_
  refine w_ist3 (pc' := 8) dJ5_newLength_7 rfl rfl ?_
  refine w_iconst (pc' := 9) dJ5_newLength_8 rfl (by decide) ?_
  refine w_iload_n (pc' := 10) dJ5_newLength_9 rfl rfl ?_
  -- at 10: .if_icmp .ge 11
  refine w_icmp_ge (pc' := 13) (tgt := 21) dJ5_newLength_10 rfl rfl (fun h_ => False.elim (by first | omega | (simp (decide := true) only [au_1, nu_2, au_lt, nu_lt, aw_e, nw_e, au_s, au_n, nu_s, nu_n, au_au, nu_nu, au_nu] at h_; omega))) (fun h_ => ?_)
  refine w_iload_n (pc' := 14) dJ5_newLength_13 rfl rfl ?_
  refine w_ldc (z := 2147483639) (pc' := 16) dJ5_newLength_14 rfl q278 (by decide +kernel) (by decide) ?_
  -- at 16: .if_icmp .gt 5
  refine w_icmp_gt (pc' := 19) (tgt := 21) dJ5_newLength_16 rfl rfl (fun h_ => False.elim (by first | omega | (simp (decide := true) only [au_1, nu_2, au_lt, nu_lt, aw_e, nw_e, au_s, au_n, nu_s, nu_n, au_au, nu_nu, au_nu] at h_; omega))) (fun h_ => ?_)
  refine w_iload_n (pc' := 20) dJ5_newLength_19 rfl rfl ?_
  -- at 20: .ireturn
  refine w_ireturn dJ5_newLength_20 rfl ?_
  exact h
/-- the number a of lists: the object, its arrays by age -/
abbrev lO (a : Int) : Rl := (30, a, 0)
abbrev lA (a j : Int) : Rl := (31, a, j)
def lfr (a : Int) (G G' : GH) : Prop := ∀ r : Rl, ¬ ((r.1 = 30 ∨ r.1 = 31) ∧ r.2.1 = a) → G' r = G r
/-- the array of a list: c places, n of them in use -/
def lar (G : GH) (a j : Int) (c : Nat) (n : Int) (e : Rl) (f : Int → Option Rl) : Prop := (∀ j', j < j' → G (lA a j') = none) ∧ n ≤ c ∧ c ≤ 100 ∧ ((e = lA a j ∧ ∃ g, G (lA a j) = some (xra 5 c g) ∧ ∀ i, 0 ≤ i → i < n → g i = f i) ∨ (c = 0 ∧ (e = (99, 0, 0) ∨ e = (99, 1, 0))))
def lst (G : GH) (a n : Int) (f : Int → Option Rl) : Prop := 0 ≤ n ∧ ∃ (mc j : Int) (c : Nat) (e : Rl), G (lO a) = some (xob 9 [xI mc, xR e, xI n]) ∧ lar G a j c n e f
/-- the elements are objects of class ci -/
def lel (G : GH) (n : Int) (f : Int → Option Rl) (ci : Nat) : Prop := ∀ i, 0 ≤ i → i < n → ∃ x fs, f i = some x ∧ (x.1 < 30 ∨ 32 ≤ x.1) ∧ G x = some (xob ci fs)
theorem lar_oa {G : GH} {a j : Int} {c : Nat} {n : Int} {e : Rl} {f : Int → Option Rl} (h : lar G a j c n e f) : tv_oa G e c := by
  obtain ⟨-, -, -, ⟨rfl, g, hg, -⟩ | ⟨rfl, h⟩⟩ := h
  · exact Or.inl ⟨g, hg⟩
  · exact Or.inr ⟨rfl, h⟩
theorem c_J7_copyOf_2 {r r' : Rl} {n m : Nat} {g : Int → Option Rl} {ci : Nat} (hr : G r = some (xra 5 n g) ∨ n = 0 ∧ (r = (99, 0, 0) ∨ r = (99, 1, 0))) (hr' : G r' = none) (h99 : r'.1 ≠ 99) (has : tv_as 5 ci) (hel : ∀ i : Int, 0 ≤ i → i < n → i < m → ∀ x, g i = some x → ∃ fs, G x = some (xob ci fs)) (hn : n ≤ 1000) (hm : m ≤ 1000)
    (h : ∀ f' : Int → Option Rl, (∀ i : Int, 0 ≤ i → i < n → i < m → f' i = g i) → K (some (xR r')) (gset G r' (xra 5 m f'))) : tvW mJ7_copyOf_2 (d + 1) K 0 [some (xR r), some (xI m), some (xR (99, 3, 0)), none] [] G 1 m := by
  refine w_less (bc' := 0 + 1) (bs' := 0 + m) (by omega) (by omega) ?_
  refine w_aload_n (pc' := 1) dJ7_copyOf_2_0 rfl rfl ?_
  refine w_ldcM (n := 3) (pc' := 3) dJ7_copyOf_2_1 rfl q304 (Or.inr ⟨rfl, rfl⟩) ?_
  -- at 3: .if_acmp .ne 10
  refine w_acmpS_ne (pc' := 6) (tgt := 13) dJ7_copyOf_2_3 rfl rfl ?_
  refine w_iload_n (pc' := 7) dJ7_copyOf_2_6 rfl rfl ?_
  refine w_newr (t := 5) r' m (pc' := 10) dJ7_copyOf_2_7 rfl (by decide) rfl q306 q305 rfl (by omega) (by assumption) (by first | assumption | simp) ?_
  refine w_goto (tgt := 24) dJ7_copyOf_2_10 rfl ?_
  refine w_ast3 (pc' := 25) dJ7_copyOf_2_24 rfl rfl ?_
  refine w_aload_n (pc' := 26) dJ7_copyOf_2_25 rfl rfl ?_
  refine w_iconst (pc' := 27) dJ7_copyOf_2_26 rfl (by decide) ?_
  refine w_aload_n (pc' := 28) dJ7_copyOf_2_27 rfl rfl ?_
  refine w_iconst (pc' := 29) dJ7_copyOf_2_28 rfl (by decide) ?_
  refine w_aload_n (pc' := 30) dJ7_copyOf_2_29 rfl rfl ?_
  -- at 30: .arraylength
  rcases hr with hr | ⟨rfl, hr⟩
  · have hne : r ≠ r' := fun q => by rw [q, hr'] at hr; cases hr
    have hG1 : gset G r' (xra 5 m (fun _ => none)) r = some (xra 5 n g) := (gset_n hne).trans hr
    refine w_alenR (pc' := 31) dJ7_copyOf_2_30 rfl hG1 ?_
    refine w_iload_n (pc' := 32) dJ7_copyOf_2_31 rfl rfl ?_
    refine w_mmin (pc' := 35) dJ7_copyOf_2_32 rfl q307 (Nat.le_of_ble_eq_true rfl) ?_
    -- at 35: .invokestatic 150
    refine w_acopyR (n0 := n) (n1 := m) (ci := ci) (pc' := 38) dJ7_copyOf_2_35 rfl q310 hG1 (gset_s _ _ _) rfl rfl has (by omega) (by omega) (by split <;> omega) (by split <;> omega) (by split <;> omega) ?_ (Nat.le_of_ble_eq_true rfl) ?_
    · intro i h0 h1 x hx
      have h2 : i < n ∧ i < m := by split at h1 <;> omega
      obtain ⟨fs, hfs⟩ := hel i h0 h2.1 h2.2 x hx
      exact ⟨fs, (gset_n (fun q => by rw [q, hr'] at hfs; cases hfs)).trans hfs⟩
    · refine w_aload_n (pc' := 39) dJ7_copyOf_2_38 rfl rfl ?_
      -- at 39: .areturn
      refine w_Areturn dJ7_copyOf_2_39 rfl ?_
      have e : ∀ (e1 e2 : XE), gset (gset G r' e1) r' e2 = gset G r' e2 := fun e1 e2 => by
        funext q
        unfold gset
        split <;> rfl
      rw [e]
      refine h _ (fun i h0 h1 h2 => ?_)
      unfold rcp
      rw [if_pos (by constructor; omega; split <;> omega), Int.sub_zero, Int.zero_add]
  · have hne : r ≠ r' := fun q => by rw [← q] at h99; rcases hr with rfl | rfl <;> exact h99 rfl
    refine w_alenX (pc' := 31) dJ7_copyOf_2_30 rfl hr ?_
    refine w_iload_n (pc' := 32) dJ7_copyOf_2_31 rfl rfl ?_
    refine w_mmin (pc' := 35) dJ7_copyOf_2_32 rfl q307 (Nat.le_of_ble_eq_true rfl) ?_
    -- at 35: .invokestatic 150
    have e0 : (if (m : Int) < 0 then (m : Int) else 0) = 0 := if_neg (by omega)
    rw [e0]
    refine w_acopy0 (n1 := m) (pc' := 38) dJ7_copyOf_2_35 rfl q310 (Or.inr ⟨rfl, hr⟩) (gset_s _ _ _) rfl rfl (Nat.le_of_ble_eq_true rfl) ?_
    refine w_aload_n (pc' := 39) dJ7_copyOf_2_38 rfl rfl ?_
    -- at 39: .areturn
    refine w_Areturn dJ7_copyOf_2_39 rfl ?_
    exact h _ (fun i h0 h1 _ => by omega)
theorem c_J7_copyOf {r r' : Rl} {n m : Nat} {g : Int → Option Rl} {ci : Nat} (hr : G r = some (xra 5 n g) ∨ n = 0 ∧ (r = (99, 0, 0) ∨ r = (99, 1, 0))) (hr' : G r' = none) (h99 : r'.1 ≠ 99) (has : tv_as 5 ci) (hel : ∀ i : Int, 0 ≤ i → i < n → i < m → ∀ x, g i = some x → ∃ fs, G x = some (xob ci fs)) (hn : n ≤ 1000) (hm : m ≤ 1000)
    (h : ∀ f' : Int → Option Rl, (∀ i : Int, 0 ≤ i → i < n → i < m → f' i = g i) → K (some (xR r')) (gset G r' (xra 5 m f'))) : tvW mJ7_copyOf (d + 2) K 0 [some (xR r), some (xI m)] [] G 1 m := by
  refine w_less (bc' := 0 + 1) (bs' := 0 + m) (by omega) (by omega) ?_
  refine w_aload_n (pc' := 1) dJ7_copyOf_0 rfl rfl ?_
  refine w_iload_n (pc' := 2) dJ7_copyOf_1 rfl rfl ?_
  refine w_aload_n (pc' := 3) dJ7_copyOf_2 rfl rfl ?_
  -- at 3: .invokevirtual 86
  refine w_getC (n := n) (pc' := 6) dJ7_copyOf_3 rfl q285 (hr.elim (fun q => Or.inl ⟨g, q⟩) Or.inr) (Nat.le_of_ble_eq_true rfl) ?_
  refine w_callS3 (pc' := 9) (mc := 1) (ms := m) dJ7_copyOf_6 rfl tJ7_copyOf_2 q302 q301 rfl (Nat.le_of_ble_eq_true rfl) (Nat.le_of_ble_eq_true rfl) ?_
  refine c_J7_copyOf_2 hr hr' h99 has hel hn hm (fun f' hf => w_p1 ?_)
  refine w_Areturn dJ7_copyOf_9 rfl ?_
  exact h f' hf
theorem c_J2_size {a n : Int} {f : Int → Option Rl} (hl : lst G a n f) (h : K (some (xI n)) G) : tvW mJ2_size d K 0 [some (xR (lO a))] [] G bc bs := by
  obtain ⟨h0, mc, j, c, e, hO, hA⟩ := hl
  refine w_aload_n (pc' := 1) dJ2_size_0 rfl rfl ?_
  refine w_get 2 (pc' := 4) dJ2_size_1 rfl fJ2_48_9 hO rfl ?_
  -- at 4: .ireturn
  refine w_ireturn dJ2_size_4 rfl ?_
  exact h
theorem c_J2_isEmpty {a n : Int} {f : Int → Option Rl} (hl : lst G a n f) (h1 : n = 0 → K (some (xI 1)) G) (h0 : n ≠ 0 → K (some (xI 0)) G) : tvW mJ2_isEmpty d K 0 [some (xR (lO a))] [] G bc bs := by
  obtain ⟨-, mc, j, c, e, hO, hA⟩ := hl
  refine w_aload_n (pc' := 1) dJ2_isEmpty_0 rfl rfl ?_
  refine w_get 2 (pc' := 4) dJ2_isEmpty_1 rfl fJ2_48_9 hO rfl ?_
  -- at 4: .ifCond .ne 7
  refine w_if_ne (pc' := 7) (tgt := 11) dJ2_isEmpty_4 rfl rfl (fun q => ?_) (fun q => ?_)
  · refine w_iconst (pc' := 12) dJ2_isEmpty_11 rfl (by decide) ?_
    -- at 12: .ireturn
    refine w_zreturn dJ2_isEmpty_12 rfl (by first | exact Or.inl rfl | exact Or.inr rfl | omega) ?_
    exact h0 q
  · refine w_iconst (pc' := 8) dJ2_isEmpty_7 rfl (by decide) ?_
    refine w_goto (tgt := 12) dJ2_isEmpty_8 rfl ?_
    -- at 12: .ireturn
    refine w_zreturn dJ2_isEmpty_12 rfl (by first | exact Or.inl rfl | exact Or.inr rfl | omega) ?_
    exact h1 q
theorem c_J2_elementData {a n i : Int} {f : Int → Option Rl} (hl : lst G a n f) (hi : 0 ≤ i ∧ i < n) (h : K (some (xO (f i))) G) : tvW mJ2_elementData d K 0 [some (xR (lO a)), some (xI i)] [] G bc bs := by
  obtain ⟨-, mc, j, c, e, hO, hA⟩ := hl
  obtain ⟨-, hn, -, ⟨rfl, g, hg, hf⟩ | ⟨rfl, -⟩⟩ := hA
  · refine w_aload_n (pc' := 1) dJ2_elementData_0 rfl rfl ?_
    refine w_get 1 (pc' := 4) dJ2_elementData_1 rfl fJ2_9_9 hO rfl ?_
    refine w_iload_n (pc' := 5) dJ2_elementData_4 rfl rfl ?_
    refine w_aald (pc' := 6) dJ2_elementData_5 rfl hg (by omega) (by omega) ?_
    -- at 6: .areturn
    refine w_areturn dJ2_elementData_6 rfl ?_
    rw [hf i hi.1 hi.2]
    exact h
  · omega
theorem c_J2_get {a n i : Int} {f : Int → Option Rl} (hl : lst G a n f) (hi : 0 ≤ i ∧ i < n) (h : K (some (xO (f i))) G) : tvW mJ2_get (d + 2) K 0 [some (xR (lO a)), some (xI i)] [] G bc bs := by
  have hl0 := hl
  obtain ⟨-, mc, j, c, e, hO, hA⟩ := hl
  refine w_iload_n (pc' := 1) dJ2_get_0 rfl rfl ?_
  refine w_aload_n (pc' := 2) dJ2_get_1 rfl rfl ?_
  refine w_get 2 (pc' := 5) dJ2_get_2 rfl fJ2_48_9 hO rfl ?_
  -- at 5: .invokestatic 118
  refine w_callS2 (pc' := 8) (mc := 0) (ms := 0) dJ2_get_5 rfl tJ3_checkIndex q215 q214 rfl (Nat.le_of_ble_eq_true rfl) (Nat.le_of_ble_eq_true rfl) ?_
  refine c_J3_checkIndex hi.1 hi.2 ?_
  refine w_p1 ?_
  refine w_pop (pc' := 9) dJ2_get_8 rfl rfl ?_
  refine w_aload_n (pc' := 10) dJ2_get_9 rfl rfl ?_
  refine w_iload_n (pc' := 11) dJ2_get_10 rfl rfl ?_
  -- at 11: .invokevirtual 123
  refine w_callV1 (pc' := 14) (mc := 0) (ms := 0) dJ2_get_11 rfl tJ2_elementData q221 rfl rfl q222 q220 hO rfl (Nat.le_of_ble_eq_true rfl) (Nat.le_of_ble_eq_true rfl) ?_
  refine c_J2_elementData hl0 hi ?_
  refine w_p1 ?_
  refine w_areturn dJ2_get_14 rfl ?_
  exact h
theorem lfr_t {a : Int} {G0 G1 G2 : GH} (h : lfr a G0 G1) (h' : lfr a G1 G2) : lfr a G0 G2 := fun r q => (h' r q).trans (h r q)
theorem lfr_s {a : Int} {G0 G1 : GH} {r : Rl} (hr : (r.1 = 30 ∨ r.1 = 31) ∧ r.2.1 = a) (h : ∀ q, q ≠ r → G1 q = G0 q) : lfr a G0 G1 := fun q hq => h q (fun z => hq (by rw [z]; exact hr))
theorem lel_fr {a n : Int} {G G' : GH} {f : Int → Option Rl} {ci : Nat} (h : lel G n f ci) (hf : lfr a G G') : lel G' n f ci := by
  intro i h0 h1
  obtain ⟨x, fs, hx, ht, hG⟩ := h i h0 h1
  exact ⟨x, fs, hx, ht, (hf x (by omega)).trans hG⟩
theorem c_J2_grow_2 {a n mc j : Int} {c : Nat} {e : Rl} {f : Int → Option Rl} {ci : Nat} (hO : G (lO a) = some (xob 9 [xI mc, xR e, xI n])) (hA : lar G a j c n e f) (hn : n = c) (hc : c ≤ 60) (has : tv_as 5 ci) (hel : lel G n f ci)
    (h : ∀ G' c', lfr a G G' → G' (lO a) = some (xob 9 [xI mc, xR (lA a (j + 1)), xI n]) → lar G' a (j + 1) c' n (lA a (j + 1)) f → n < c' → K (some (xR (lA a (j + 1)))) G') : tvW mJ2_grow_2 (d + 3) K 0 [some (xR (lO a)), some (xI (n + 1)), none, none] [] G 1 100 := by
  have hoa := lar_oa hA
  obtain ⟨hfr, -, -, hA⟩ := hA
  have fin : ∀ (c' : Nat) (g' : Int → Option Rl), n < c' → c' ≤ 100 → (∀ i, 0 ≤ i → i < n → g' i = f i) → K (some (xR (lA a (j + 1)))) (gset (gset G (lA a (j + 1)) (xra 5 c' g')) (lO a) (xob 9 [xI mc, xR (lA a (j + 1)), xI n])) := by
    intro c' g' h1 h2 h3
    refine h _ c' ?_ (gset_s _ _ _) ⟨?_, by omega, h2, Or.inl ⟨rfl, g', ?_, h3⟩⟩ h1
    · intro r hr
      rw [gset_n (fun q => hr (by rw [q]; exact ⟨Or.inl rfl, rfl⟩)), gset_n (fun q => hr (by rw [q]; exact ⟨Or.inr rfl, rfl⟩))]
    · intro j' hj
      rw [gset_n (rl_ne (by omega)), gset_n (rl_ne (by omega))]
      exact hfr j' (by omega)
    · rw [gset_n (rl_ne (by omega))]
      exact gset_s _ _ _
  have hnew : G (lA a (j + 1)) = none := hfr _ (by omega)
  have go : ∀ v : Option XV, tvW mJ2_grow_2 (d + 3) K 20 [some (xR (lO a)), some (xI (n + 1)), some (xI c), v] [] G 1 100 := by
    intro v
    have hz : ∃ z : Nat, (z : Int) = (c : Int) + (if (1 : Int) < (c : Int) / 2 then (c : Int) / 2 else 1) := ⟨((c : Int) + (if (1 : Int) < (c : Int) / 2 then (c : Int) / 2 else 1)).toNat, by split <;> omega⟩
    obtain ⟨z, hz⟩ := hz
    have hz1 : c < z ∧ z ≤ 100 := by split at hz <;> omega
    refine w_iload_n (pc' := 21) dJ2_grow_2_20 rfl rfl ?_
    refine w_iload_n (pc' := 22) dJ2_grow_2_21 rfl rfl ?_
    refine w_iload_n (pc' := 23) dJ2_grow_2_22 rfl rfl ?_
    refine w_isub (pc' := 24) dJ2_grow_2_23 rfl ⟨by first | omega | (simp (decide := true) only [au_1, nu_2, au_lt, nu_lt, aw_e, nw_e, au_s, au_n, nu_s, nu_n, au_au, nu_nu, au_nu]; omega), by first | omega | (simp (decide := true) only [au_1, nu_2, au_lt, nu_lt, aw_e, nw_e, au_s, au_n, nu_s, nu_n, au_au, nu_nu, au_nu]; omega)⟩ ?_
    refine w_iload_n (pc' := 25) dJ2_grow_2_24 rfl rfl ?_
    refine w_iconst (pc' := 26) dJ2_grow_2_25 rfl (by decide) ?_
    refine w_ishr (pc' := 27) dJ2_grow_2_26 rfl ?_
    -- at 27: .invokestatic 73
    rw [bShr_1 ⟨by omega, by omega⟩, show n + 1 - (c : Int) = 1 by omega]
    refine w_callS3 (pc' := 30) (mc := 0) (ms := 0) dJ2_grow_2_27 rfl tJ5_newLength q273 q272 rfl (Nat.le_of_ble_eq_true rfl) (Nat.le_of_ble_eq_true rfl) ?_
    refine c_J5_newLength (by rw [← hz]; omega) (by rw [← hz]; omega) ?_
    refine w_p1 ?_
    rw [← hz]
    refine w_ist3 (pc' := 31) dJ2_grow_2_30 rfl rfl ?_
    refine w_aload_n (pc' := 32) dJ2_grow_2_31 rfl rfl ?_
    refine w_aload_n (pc' := 33) dJ2_grow_2_32 rfl rfl ?_
    refine w_get 1 (pc' := 36) dJ2_grow_2_33 rfl fJ2_9_9 hO rfl ?_
    refine w_iload_n (pc' := 37) dJ2_grow_2_36 rfl rfl ?_
    -- at 37: .invokestatic 66
    refine w_less (bc' := 0 + 1) (bs' := 0 + z) (by omega) (by omega) ?_
    refine w_callS2 (pc' := 40) (mc := 1) (ms := z) dJ2_grow_2_37 rfl tJ7_copyOf q283 q282 rfl (Nat.le_of_ble_eq_true rfl) (Nat.le_of_ble_eq_true rfl) ?_
    have fin2 : ∀ f' : Int → Option Rl, (∀ i : Int, 0 ≤ i → i < c → f' i = f i) → tvW mJ2_grow_2 (d + 3) K 40 [some (xR (lO a)), some (xI (n + 1)), some (xI c), some (xI z)] [xR (lA a (j + 1)), xR (lO a)] (gset G (lA a (j + 1)) (xra 5 z f')) 0 0 := by
      intro f' hf
      refine w_dup_x1 (pc' := 41) dJ2_grow_2_40 rfl rfl rfl ?_
      refine w_put 1 (pc' := 44) dJ2_grow_2_41 rfl pJ2_9_9 (by decide) ((gset_n (rl_ne (by omega))).trans hO) (Nat.le_of_ble_eq_true rfl) trivial ?_
      -- at 44: .areturn
      refine w_Areturn dJ2_grow_2_44 rfl ?_
      exact fin z f' (by omega) (by omega) (fun i h0 h1 => hf i h0 (by omega))
    rcases hA with ⟨rfl, g, hg, hf⟩ | ⟨rfl, hx⟩
    · refine c_J7_copyOf (ci := ci) (Or.inl hg) hnew (by simp) has ?_ (by omega) (by omega) (fun f' hf' => w_p1 ?_)
      · intro i h0 h1 h2 x hx
        obtain ⟨x', fs, e1, -, e2⟩ := hel i h0 (by omega)
        rw [hf i h0 (by omega), e1] at hx
        cases hx
        exact ⟨fs, e2⟩
      · exact fin2 f' (fun i h0 h1 => (hf' i h0 h1 (by omega)).trans (hf i h0 (by omega)))
    · refine c_J7_copyOf (ci := ci) (g := fun _ => none) (Or.inr ⟨rfl, hx⟩) hnew (by simp) has (fun i h0 h1 => by omega) (by omega) (by omega) (fun f' hf' => w_p1 ?_)
      exact fin2 f' (fun i h0 h1 => by omega)
  have first : ∀ (kk : tvW mJ2_grow_2 (d + 3) K 5 [some (xR (lO a)), some (xI (n + 1)), none, none] [xI c] G 1 100), tvW mJ2_grow_2 (d + 3) K 0 [some (xR (lO a)), some (xI (n + 1)), none, none] [] G 1 100 := by
    intro kk
    refine w_aload_n (pc' := 1) dJ2_grow_2_0 rfl rfl ?_
    refine w_get 1 (pc' := 4) dJ2_grow_2_1 rfl fJ2_9_9 hO rfl ?_
    -- at 4: .arraylength
    rcases hoa with ⟨g, hg⟩ | ⟨rfl, hx⟩
    · exact w_alenR (pc' := 5) dJ2_grow_2_4 rfl hg kk
    · exact w_alenX (pc' := 5) dJ2_grow_2_4 rfl hx kk
  refine first ?_
  refine w_ist2 (pc' := 6) dJ2_grow_2_5 rfl rfl ?_
  refine w_iload_n (pc' := 7) dJ2_grow_2_6 rfl rfl ?_
  -- at 7: .ifCond .gt 13
  refine w_if_gt (pc' := 10) (tgt := 20) dJ2_grow_2_7 rfl rfl (fun q => ?_) (fun q => ?_)
  · exact go _
  · refine w_aload_n (pc' := 11) dJ2_grow_2_10 rfl rfl ?_
    refine w_get 1 (pc' := 14) dJ2_grow_2_11 rfl fJ2_9_9 hO rfl ?_
    refine w_gets (n := 0) (pc' := 17) dJ2_grow_2_14 rfl q124 (Or.inl ⟨rfl, rfl⟩) ?_
    -- at 17: .if_acmp .eq 28
    refine w_acmp_eq (pc' := 20) (tgt := 45) dJ2_grow_2_17 rfl rfl ?_ (fun q hq _ => by cases hq; exact Or.inl rfl) (fun g => ?_) (fun g => go _)
    · intro q hq h99
      cases hq
      rcases hA with ⟨rfl, -⟩ | ⟨-, hx⟩
      · exact absurd h99 (by simp)
      · exact hx
    · have hc0 : c = 0 := by omega
      refine w_less (bc' := 0 + 1) (bs' := 0 + 10) (by omega) (by omega) ?_
      refine w_aload_n (pc' := 46) dJ2_grow_2_45 rfl rfl ?_
      refine w_bipush (pc' := 48) dJ2_grow_2_46 rfl (by decide +kernel) (by decide) ?_
      refine w_iload_n (pc' := 49) dJ2_grow_2_48 rfl rfl ?_
      refine w_mmax (pc' := 52) dJ2_grow_2_49 rfl q313 (Nat.le_of_ble_eq_true rfl) ?_
      -- at 52: .anewarray 7
      rw [if_neg (by omega)]
      refine w_newr (t := 5) (lA a (j + 1)) 10 (pc' := 55) dJ2_grow_2_52 rfl (by decide) rfl q314 q305 rfl (by omega) (by assumption) (by first | assumption | simp) ?_
      refine w_dup_x1 (pc' := 56) dJ2_grow_2_55 rfl rfl rfl ?_
      refine w_put 1 (pc' := 59) dJ2_grow_2_56 rfl pJ2_9_9 (by decide) ((gset_n (rl_ne (by omega))).trans hO) (Nat.le_of_ble_eq_true rfl) trivial ?_
      -- at 59: .areturn
      refine w_Areturn dJ2_grow_2_59 rfl ?_
      exact fin 10 _ (by omega) (by omega) (fun i h0 h1 => by omega)
theorem c_J2_grow {a n mc j : Int} {c : Nat} {e : Rl} {f : Int → Option Rl} {ci : Nat} (hO : G (lO a) = some (xob 9 [xI mc, xR e, xI n])) (hA : lar G a j c n e f) (hn : n = c) (hc : c ≤ 60) (has : tv_as 5 ci) (hel : lel G n f ci)
    (h : ∀ G' c', lfr a G G' → G' (lO a) = some (xob 9 [xI mc, xR (lA a (j + 1)), xI n]) → lar G' a (j + 1) c' n (lA a (j + 1)) f → n < c' → K (some (xR (lA a (j + 1)))) G') : tvW mJ2_grow (d + 4) K 0 [some (xR (lO a))] [] G 1 100 := by
  refine w_aload_n (pc' := 1) dJ2_grow_0 rfl rfl ?_
  refine w_aload_n (pc' := 2) dJ2_grow_1 rfl rfl ?_
  refine w_get 2 (pc' := 5) dJ2_grow_2 rfl fJ2_48_9 hO rfl ?_
  refine w_iconst (pc' := 6) dJ2_grow_5 rfl (by decide) ?_
  refine w_iadd (pc' := 7) dJ2_grow_6 rfl ⟨by first | omega | (simp (decide := true) only [au_1, nu_2, au_lt, nu_lt, aw_e, nw_e, au_s, au_n, nu_s, nu_n, au_au, nu_nu, au_nu]; omega), by first | omega | (simp (decide := true) only [au_1, nu_2, au_lt, nu_lt, aw_e, nw_e, au_s, au_n, nu_s, nu_n, au_au, nu_nu, au_nu]; omega)⟩ ?_
  -- at 7: .invokevirtual 69
  refine w_callV1 (pc' := 10) (mc := 1) (ms := 100) dJ2_grow_7 rfl tJ2_grow_2 q270 rfl rfl qs2 q268 hO rfl (Nat.le_of_ble_eq_true rfl) (Nat.le_of_ble_eq_true rfl) ?_
  refine c_J2_grow_2 hO hA hn hc has hel (fun G' c' q1 q2 q3 q4 => w_p1 ?_)
  refine w_Areturn dJ2_grow_10 rfl ?_
  exact h G' c' q1 q2 q3 q4
end
