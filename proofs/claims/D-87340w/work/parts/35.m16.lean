set_option maxRecDepth 10000
/-! the search -/
abbrev SA : Type := Int × Int × Int × Int × Int × (Int → Int)
def endA (most : Int) (A : SA) : Prop := (A).2.2.2.2.1 = 1 ∨ (A).2.2.1 = most
def kpA (b : Int → Int) (c : Int) (A : SA) : SA := ((A).1, (A).2.1, (A).2.2.1 + 1, c, (A).2.2.2.2.1, b)
def lpG (F : Int → SA → SA) : Nat → Int → SA → SA
  | 0, _, A => A
  | k + 1, n, A => lpG F k (n + 1) (F n A)
noncomputable def trG (cd : (Int → Int) → (Int → Int) → Int → Int → Prop) (kc : Int → Int) (most byc least o : Int) (b l : Int → Int) (c pl : Int) (nx : (Int → Int) → (Int → Int) → Int → SA → SA) (n : Int) (A : SA) : SA :=
  @ite SA (endA most A) (Classical.propDecidable _) A (@ite SA (cd b l pl n) (Classical.propDecidable _)
    (if byc ≠ 0 ∧ 0 ≤ (A).2.2.2.1 ∧ (A).2.2.2.1 ≤ c + kc (n / 8) + least * o then A else if (A).1 = 30000 ∨ (A).2.1 = 600000 then ((A).1, (A).2.1, (A).2.2.1, (A).2.2.2.1, 1, (A).2.2.2.2.2)
      else nx (iset b pl (n + 1)) (iset l (n / 8) (l (n / 8) - 1)) (c + kc (n / 8)) ((A).1 + 1, (A).2.1 + 1, (A).2.2.1, (A).2.2.2.1, (A).2.2.2.2.1, (A).2.2.2.2.2)) A)
noncomputable def nxA (cd : (Int → Int) → (Int → Int) → Int → Int → Prop) (np : (Int → Int) → (Int → Int) → Int) (kc : Int → Int) (n8 : Nat) (most byc least : Int) : Nat → (Int → Int) → (Int → Int) → Int → SA → SA
  | 0 => fun b _ c A => kpA b c A
  | o + 1 => fun b l c A => lpG (fun n A => trG cd kc most byc least o b l c (np b l) (nxA cd np kc n8 most byc least o) n A) n8 0 A
theorem lpG_end {F : Int → SA → SA} {A : SA} (h : ∀ n, F n A = A) : ∀ k n, lpG F k n A = A
  | 0, _ => rfl
  | k + 1, n => by show lpG F k (n + 1) (F n A) = A; rw [h n]; exact lpG_end h k (n + 1)
theorem lpG_skip {F : Int → SA → SA} {A : SA} : ∀ (j k : Nat) (n : Int), (∀ n', n ≤ n' → n' < n + j → F n' A = A) → lpG F (j + k) n A = lpG F k (n + j) A
  | 0, k, n, _ => by rw [Nat.zero_add]; simp
  | j + 1, k, n, h => by
    rw [show j + 1 + k = (j + k) + 1 by omega]
    show lpG F (j + k) (n + 1) (F n A) = _
    rw [h n (by omega) (by omega), lpG_skip j k (n + 1) (fun n' a b => h n' (by omega) (by omega)), show n + 1 + (j : Int) = n + ((j + 1 : Nat) : Int) by omega]
theorem trG_end {cd : (Int → Int) → (Int → Int) → Int → Int → Prop} {kc : Int → Int} {most byc least o : Int} {b l : Int → Int} {c pl : Int} {nx : (Int → Int) → (Int → Int) → Int → SA → SA} {n : Int} {A : SA} (h : endA most A) : trG cd kc most byc least o b l c pl nx n A = A := by
  unfold trG; exact @if_pos _ (Classical.propDecidable _) h _ _ _
theorem trG_no {cd : (Int → Int) → (Int → Int) → Int → Int → Prop} {kc : Int → Int} {most byc least o : Int} {b l : Int → Int} {c pl : Int} {nx : (Int → Int) → (Int → Int) → Int → SA → SA} {n : Int} {A : SA} (h : ¬ cd b l pl n) : trG cd kc most byc least o b l c pl nx n A = A := by
  unfold trG
  rw [@if_neg _ (Classical.propDecidable _) h _ _ _]
  by_cases q : endA most A
  · exact @if_pos _ (Classical.propDecidable _) q _ _ _
  · exact @if_neg _ (Classical.propDecidable _) q _ _ _
theorem trG_yes {cd : (Int → Int) → (Int → Int) → Int → Int → Prop} {kc : Int → Int} {most byc least o : Int} {b l : Int → Int} {c pl : Int} {nx : (Int → Int) → (Int → Int) → Int → SA → SA} {n : Int} {A : SA} (h : cd b l pl n) (he : ¬ endA most A) : trG cd kc most byc least o b l c pl nx n A = (if byc ≠ 0 ∧ 0 ≤ (A).2.2.2.1 ∧ (A).2.2.2.1 ≤ c + kc (n / 8) + least * o then A else if (A).1 = 30000 ∨ (A).2.1 = 600000 then ((A).1, (A).2.1, (A).2.2.1, (A).2.2.2.1, 1, (A).2.2.2.2.2)
      else nx (iset b pl (n + 1)) (iset l (n / 8) (l (n / 8) - 1)) (c + kc (n / 8)) ((A).1 + 1, (A).2.1 + 1, (A).2.2.1, (A).2.2.2.1, (A).2.2.2.2.1, (A).2.2.2.2.2)) := by
  unfold trG
  rw [@if_neg _ (Classical.propDecidable _) he _ _ _, @if_pos _ (Classical.propDecidable _) h _ _ _]
/-- empty places among those that are free -/
noncomputable def ne_ (σ : MS) (f : Int) (b : Int → Int) : Int := sm (fun k => b1 (opB σ f k ∧ b k = 0)) 64
theorem sm_one {f g : Int → Int} {n k : Int} (k0 : 0 ≤ k) (k1 : k < n) (h : ∀ i, i ≠ k → g i = f i) : sm g n = sm f n - f k + g k := by
  have lo : ∀ m, m ≤ k → sm g m = sm f m := fun m hm => sm_c (fun i _ i1 => h i (by omega))
  have hi : ∀ j : Nat, sm g (k + 1 + j) = sm f (k + 1 + j) - f k + g k := by
    intro j
    induction j with
    | zero => rw [show k + 1 + ((0 : Nat) : Int) = k + 1 by omega, sm_s k0, sm_s k0, lo k (by omega)]; omega
    | succ j ih => rw [show k + 1 + ((j + 1 : Nat) : Int) = k + 1 + j + 1 by omega, sm_s (by omega), sm_s (by omega), ih, h (k + 1 + j) (by omega)]; omega
  have := hi (n - (k + 1)).toNat
  rwa [show k + 1 + (((n - (k + 1)).toNat : Nat) : Int) = n by omega] at this
theorem ne_r {σ : MS} {f : Int} {b : Int → Int} : 0 ≤ ne_ σ f b ∧ ne_ σ f b ≤ 64 := by
  have := sm_r (f := fun k => b1 (opB σ f k ∧ b k = 0)) (n := 64) 1 (by omega) (fun _ _ _ => b1_r _)
  unfold ne_; omega
theorem ne_set {σ : MS} {f pl v : Int} {b : Int → Int} (h0 : 0 ≤ pl) (h1 : pl < 64) (ho : opB σ f pl) (hb : b pl = 0) (hv : v ≠ 0) : ne_ σ f (iset b pl v) = ne_ σ f b - 1 := by
  unfold ne_
  rw [sm_one (f := fun k => b1 (opB σ f k ∧ b k = 0)) (k := pl) h0 h1 (fun i hi => by rw [iset_n hi])]
  rw [b1_t ⟨ho, hb⟩, b1_f (fun q => hv (by rw [← q.2, iset_s]))]
  omega
theorem ne_pos {σ : MS} {f pl : Int} {b : Int → Int} (h0 : 0 ≤ pl) (h1 : pl < 64) (ho : opB σ f pl) (hb : b pl = 0) : 0 < ne_ σ f b := by
  have := ne_set (v := 1) h0 h1 ho hb (by omega)
  have := ne_r (σ := σ) (f := f) (b := iset b pl 1)
  omega
theorem ne_0 {σ : MS} {f : Int} {b : Int → Int} (h : ∀ k, opB σ f k → b k ≠ 0) : ne_ σ f b = 0 := by
  have := sm_pos (f := fun k => b1 (opB σ f k ∧ b k = 0)) (n := 64) (by omega) (fun i _ _ => by rw [b1_f (fun q => h i q.1 q.2)]; omega)
  have := ne_r (σ := σ) (f := f) (b := b)
  unfold ne_ at *; omega
theorem ne_cut {σ : MS} {f : Int} {b : Int → Int} : ne_ σ f (cut σ f b) = ne_ σ f b := by
  unfold ne_
  refine sm_c (fun k _ _ => b1_c ?_)
  constructor
  · rintro ⟨h1, h2⟩; exact ⟨h1, by rw [cut_in h1.1] at h2; exact h2⟩
  · rintro ⟨h1, h2⟩; exact ⟨h1, by rw [cut_in h1.1]; exact h2⟩
theorem OP_ct {σ : MS} {f N : Int} {g : Int → Int} (h : OP σ f N g) (hR : σ.2 35 f ≤ 8) : ne_ σ f (fun _ => 0) = N := by
  obtain ⟨hN, o1, o2, o3⟩ := h
  have : ∀ m : Nat, (m : Int) ≤ 64 → ∃ t, 0 ≤ t ∧ t ≤ N ∧ sm (fun k => b1 (opB σ f k ∧ (0 : Int) = 0)) m = t ∧ (∀ t', 0 ≤ t' → t' < t → g t' < m) ∧ ∀ t', t ≤ t' → t' < N → (m : Int) ≤ g t' := by
    intro m
    induction m with
    | zero => intro _; exact ⟨0, by omega, by omega, rfl, fun t' a b => by omega, fun t' a b => by have := (o1 t' a b).1; omega⟩
    | succ m ih =>
      intro hm
      obtain ⟨t, t0, t1, e, q1, q2⟩ := ih (by omega)
      rw [show ((m + 1 : Nat) : Int) = (m : Int) + 1 by omega, sm_s (by omega), e]
      by_cases hp : opB σ f m
      · obtain ⟨s, s0, s1, s2⟩ := o3 _ hp
        have hs : s = t := by
          rcases Int.lt_trichotomy s t with w | w | w
          · have := q1 s s0 w; omega
          · exact w
          · have := o2 t s t0 w s1
            have := q2 t (by omega) (by omega)
            omega
        rw [b1_t ⟨hp, rfl⟩]
        refine ⟨t + 1, by omega, by omega, rfl, fun t' a b => ?_, fun t' a b => ?_⟩
        · by_cases w : t' = t
          · rw [w, ← hs, s2]; omega
          · have := q1 t' a (by omega); omega
        · have := o2 t t' t0 (by omega) b
          rw [← hs, s2] at this; omega
      · rw [b1_f (fun q => hp q.1)]
        refine ⟨t, t0, t1, by omega, fun t' a b => by have := q1 t' a b; omega, fun t' a b => ?_⟩
        have h1 := q2 t' a b
        have h2 : g t' ≠ m := fun w => hp (w ▸ o1 t' (by omega) b)
        omega
  obtain ⟨t, t0, t1, e, q1, q2⟩ := this 64 (by omega)
  have : t = N := by
    rcases Int.lt_trichotomy t N with w | w | w
    · have h1 := q2 t (by omega) w
      have h2 := (o1 t t0 w).1
      omega
    · exact w
    · omega
  unfold ne_
  rw [← this]
  exact e
theorem shF_cut {σ : MS} {f : Int} {fl b : Int → Int} : shF σ f fl (cut σ f b) = shF σ f fl b := by
  funext z
  unfold shF
  by_cases h : opB σ f (z - 64 * f)
  · rw [ic_t h, ic_t h, cut_in h.1]
  · rw [ic_f h, ic_f h]
theorem shF_shF {σ : MS} {f : Int} {fl b c : Int → Int} : shF σ f (shF σ f fl b) c = shF σ f fl c := by
  funext z
  unfold shF
  by_cases h : opB σ f (z - 64 * f)
  · rw [ic_t h, ic_t h]
  · rw [ic_f h, ic_f h, ic_f h]
def accOk (most : Int) (A : SA) : Prop := (0 ≤ (A).1 ∧ (A).1 ≤ 30000) ∧ (0 ≤ (A).2.1 ∧ (A).2.1 ≤ 600000) ∧ (0 ≤ (A).2.2.1 ∧ (A).2.2.1 ≤ most) ∧ (-1 ≤ (A).2.2.2.1 ∧ (A).2.2.2.1 ≤ 100000) ∧ ((A).2.2.2.2.1 = 0 ∨ (A).2.2.2.2.1 = 1)
noncomputable def srch (σ : MS) (f most byc least : Int) : Nat → (Int → Int) → (Int → Int) → Int → SA → SA := nxA (cdB σ f) (npl σ f) (σ.2 2) (8 * σ.1 5).toNat most byc least
theorem iset_bk {f : Int → Int} {i v w : Int} (h : f i = w) : iset (iset f i v) i w = f := by
  funext j; unfold iset; split
  · rename_i e; rw [e, h]
  · rfl
theorem nxP_cut {σ : MS} {f pl : Int} {b l : Int → Int} (hC : σ.2 36 f ≤ 8) (h : nxP σ f b l pl) : nxP σ f (cut σ f b) (cutl σ l) pl := by
  obtain ⟨h1, h2, h3⟩ := h
  refine ⟨h1, by rw [cut_in h1.1]; exact h2, fun k hk hk0 => ?_⟩
  rw [nfB_cut hC, nfB_cut hC]
  exact h3 k hk (by rw [cut_in hk.1] at hk0; exact hk0)
section
variable {d : Nat} {K : Option XV → GH → Prop} {G0 G : GH} {bc bs : Nat} {σ : MS} {M : tv_M} {pc pc' : Nat} {L : List (Option XV)} {st : List XV}
theorem c_X1_search_n {most byc least : Int} (hK : kok σ) (hF : fo1 σ) (hf : 0 ≤ (σ.1 42) ∧ (σ.1 42) < σ.1 40) (hO : OP σ (σ.1 42) (σ.1 43) (σ.2 46)) (hm : 1 ≤ most ∧ most ≤ 1000000) (hle : 0 ≤ least ∧ least ≤ 1000) :
    ∀ (o : Nat) (D : Int) (b l dp dt : Int → Int) (c : Int) (A : SA) (x5 x6 : Option XV), ne_ σ (σ.1 42) b = o → D + o = σ.1 43 → 0 ≤ D → bok σ (σ.1 42) b → lok σ l → (0 ≤ c ∧ c ≤ 1000 * D) → accOk most A → ¬ endA most A →
      (∀ (dp' dt' : Int → Int) (A' : SA) (x5 x6 : Option XV), srch σ (σ.1 42) most byc least o (cut σ (σ.1 42) b) (cutl σ l) c A = A' → ¬ endA most A' → accOk most A' → (∀ t, 0 ≤ t → t < D → dp' t = dp t ∧ dt' t = dt t) → tvW mX1_search (d + 6) K 46 [some (xR mR), some (xI most), some (xI byc), some (xI least), some (xI 0), x5, x6] [] (ov (nu (nu (nu (nu (nu (nu (nu (au (au (au (au (au σ 38 (shF σ (σ.1 42) (σ.2 38) (A').2.2.2.2.2)) 44 (b)) 45 (l)) 47 (dp')) 48 (dt')) 41 (A').2.1) 49 (D)) 50 (A').1) 51 (A').2.2.1) 52 (c)) 53 (A').2.2.2.1) 54 (A').2.2.2.2.1) G0) bc bs) →
      (∀ (b' l' dp' dt' : Int → Int) (dep' co' dn : Int) (A' : SA) (x5 x6 : Option XV), srch σ (σ.1 42) most byc least o (cut σ (σ.1 42) b) (cutl σ l) c A = A' → endA most A' → accOk most A' → tvW mX1_search (d + 6) K 46 [some (xR mR), some (xI most), some (xI byc), some (xI least), some (xI dn), x5, x6] [] (ov (nu (nu (nu (nu (nu (nu (nu (au (au (au (au (au σ 38 (shF σ (σ.1 42) (σ.2 38) (A').2.2.2.2.2)) 44 (b')) 45 (l')) 47 (dp')) 48 (dt')) 41 (A').2.1) 49 (dep')) 50 (A').1) 51 (A').2.2.1) 52 (co')) 53 (A').2.2.2.1) 54 (A').2.2.2.2.1) G0) bc bs) →
      tvW mX1_search (d + 6) K 46 [some (xR mR), some (xI most), some (xI byc), some (xI least), some (xI 1), x5, x6] [] (ov (nu (nu (nu (nu (nu (nu (nu (au (au (au (au (au σ 38 (shF σ (σ.1 42) (σ.2 38) (A).2.2.2.2.2)) 44 (b)) 45 (l)) 47 (dp)) 48 (dt)) 41 (A).2.1) 49 (D)) 50 (A).1) 51 (A).2.2.1) 52 (c)) 53 (A).2.2.2.1) 54 (A).2.2.2.2.1) G0) bc bs := by
  have hK1 := hK.1
  have hF1 := hF.1
  obtain ⟨hR, hC, hto, hst⟩ := hF.2 _ hf.1 hf.2
  have hN := hO.1
  intro o
  induction o with
  | zero =>
    intro D b l dp dt c A x5 x6 hne hD hD0 hb hl hc hA hE hup hend
    obtain ⟨a1, a2, a3, a4, a5⟩ := hA
    have e1 : (A).2.2.2.2.1 = 0 := by
      rcases a5 with q | q
      · exact q
      · exact absurd (Or.inl q) hE
    have e2 : (A).2.2.1 < most := by
      have : (A).2.2.1 ≠ most := fun q => hE (Or.inr q)
      omega
    refine w_aload_n (pc' := 47) dX1_search_46 rfl rfl ?_
    refine w_mgi 51 (pc' := 50) dX1_search_47 rfl fX1_319_1 rfl ?_
    refine w_iload_n (pc' := 51) dX1_search_50 rfl rfl ?_
    -- at 51: .if_icmp .ge 326
    try simp (decide := true) only [au_1, nu_2, au_lt, nu_lt, aw_e, nw_e, au_s, au_n, nu_s, nu_n, au_au, nu_nu, au_nu]
    refine w_icmp_ge (pc' := 54) (tgt := 377) dX1_search_51 rfl rfl (fun h_ => False.elim (by first | omega | (simp (decide := true) only [au_1, nu_2, au_lt, nu_lt, aw_e, nw_e, au_s, au_n, nu_s, nu_n, au_au, nu_nu, au_nu] at h_; omega))) (fun h_ => ?_)
    refine w_aload_n (pc' := 55) dX1_search_54 rfl rfl ?_
    refine w_mgi 54 (pc' := 58) dX1_search_55 rfl fX1_325_1 rfl ?_
    -- at 58: .ifCond .ne 319
    try simp (decide := true) only [au_1, nu_2, au_lt, nu_lt, aw_e, nw_e, au_s, au_n, nu_s, nu_n, au_au, nu_nu, au_nu]
    rw [e1]
    refine w_if_ne (pc' := 61) (tgt := 377) dX1_search_58 rfl rfl (fun h_ => False.elim (by first | omega | (simp (decide := true) only [au_1, nu_2, au_lt, nu_lt, aw_e, nw_e, au_s, au_n, nu_s, nu_n, au_au, nu_nu, au_nu] at h_; omega))) (fun h_ => ?_)
    refine w_iload (pc' := 63) dX1_search_61 rfl rfl ?_
    -- at 63: .ifCond .ne 10
    try simp (decide := true) only [au_1, nu_2, au_lt, nu_lt, aw_e, nw_e, au_s, au_n, nu_s, nu_n, au_au, nu_nu, au_nu]
    refine w_if_ne (pc' := 66) (tgt := 73) dX1_search_63 rfl rfl (fun h_ => ?_) (fun h_ => False.elim (by first | omega | (simp (decide := true) only [au_1, nu_2, au_lt, nu_lt, aw_e, nw_e, au_s, au_n, nu_s, nu_n, au_au, nu_nu, au_nu] at h_; omega)))
    refine w_iload (pc' := 75) dX1_search_73 rfl rfl ?_
    -- at 75: .ifCond .eq 73
    try simp (decide := true) only [au_1, nu_2, au_lt, nu_lt, aw_e, nw_e, au_s, au_n, nu_s, nu_n, au_au, nu_nu, au_nu]
    refine w_if_eq (pc' := 78) (tgt := 148) dX1_search_75 rfl rfl (fun h_ => False.elim (by first | omega | (simp (decide := true) only [au_1, nu_2, au_lt, nu_lt, aw_e, nw_e, au_s, au_n, nu_s, nu_n, au_au, nu_nu, au_nu] at h_; omega))) (fun h_ => ?_)
    refine w_aload_n (pc' := 79) dX1_search_78 rfl rfl ?_
    -- at 79: .invokevirtual 335
    try simp (decide := true) only [au_1, nu_2, au_lt, nu_lt, aw_e, nw_e, au_s, au_n, nu_s, nu_n, au_au, nu_nu, au_nu]
    refine w_callV0 (pc' := 82) (mc := 0) (ms := 0) dX1_search_79 rfl tX1_nextPlace q1537 rfl rfl qs72 q1535 ov_o rfl (Nat.le_of_ble_eq_true rfl) (Nat.le_of_ble_eq_true rfl) ?_
    refine c_X1_nextPlace (show kok _ from hK) (show fo1 _ from hF) hf (show bok _ (σ.1 42) b from hb) (show OP _ (σ.1 42) _ _ from hO) (fun pl p0 p1 hp => w_p1 ?_) (fun hn => w_p1 ?_)
    · have hp : nxP σ (σ.1 42) b l pl := hp
      have := ne_pos p0 p1 hp.1 hp.2.1
      omega
    · refine w_ist5 (pc' := 84) dX1_search_82 rfl rfl ?_
      refine w_iload (pc' := 86) dX1_search_84 rfl rfl ?_
      -- at 86: .ifCond .ge 31
      try simp (decide := true) only [au_1, nu_2, au_lt, nu_lt, aw_e, nw_e, au_s, au_n, nu_s, nu_n, au_au, nu_nu, au_nu]
      refine w_if_ge (pc' := 89) (tgt := 117) dX1_search_86 rfl rfl (fun h_ => False.elim (by first | omega | (simp (decide := true) only [au_1, nu_2, au_lt, nu_lt, aw_e, nw_e, au_s, au_n, nu_s, nu_n, au_au, nu_nu, au_nu] at h_; omega))) (fun h_ => ?_)
      refine w_aload_n (pc' := 90) dX1_search_89 rfl rfl ?_
      refine w_dup (pc' := 91) dX1_search_90 rfl rfl ?_
      refine w_mgi 51 (pc' := 94) dX1_search_91 rfl fX1_319_1 rfl ?_
      refine w_iconst (pc' := 95) dX1_search_94 rfl (by decide) ?_
      refine w_iadd (pc' := 96) dX1_search_95 rfl ⟨by first | omega | (simp (decide := true) only [au_1, nu_2, au_lt, nu_lt, aw_e, nw_e, au_s, au_n, nu_s, nu_n, au_au, nu_nu, au_nu]; omega), by first | omega | (simp (decide := true) only [au_1, nu_2, au_lt, nu_lt, aw_e, nw_e, au_s, au_n, nu_s, nu_n, au_au, nu_nu, au_nu]; omega)⟩ ?_
      refine w_nup 51 (pc' := 99) dX1_search_96 rfl pX1_319_1 rfl trivial ?_
      try simp (decide := true) only [au_1, nu_2, au_lt, nu_lt, aw_e, nw_e, au_s, au_n, nu_s, nu_n, au_au, nu_nu, au_nu]
      refine w_aload_n (pc' := 100) dX1_search_99 rfl rfl ?_
      refine w_aload_n (pc' := 101) dX1_search_100 rfl rfl ?_
      refine w_mgi 52 (pc' := 104) dX1_search_101 rfl fX1_313_1 rfl ?_
      refine w_nup 53 (pc' := 107) dX1_search_104 rfl pX1_322_1 rfl trivial ?_
      try simp (decide := true) only [au_1, nu_2, au_lt, nu_lt, aw_e, nw_e, au_s, au_n, nu_s, nu_n, au_au, nu_nu, au_nu]
      refine w_aload_n (pc' := 108) dX1_search_107 rfl rfl ?_
      -- at 108: .invokevirtual 338
      try simp (decide := true) only [au_1, nu_2, au_lt, nu_lt, aw_e, nw_e, au_s, au_n, nu_s, nu_n, au_au, nu_nu, au_nu]
      refine w_callV0 (pc' := 111) (mc := 0) (ms := 0) dX1_search_108 rfl tX1_show q1549 rfl rfl qs75 q1547 ov_o rfl (Nat.le_of_ble_eq_true rfl) (Nat.le_of_ble_eq_true rfl) ?_
      refine c_X1_show (show fo1 _ from hF) hf (show OP _ (σ.1 42) _ _ from hO) ?_
      refine w_p0 ?_
      try simp (decide := true) only [au_1, nu_2, au_lt, nu_lt, aw_e, nw_e, au_s, au_n, nu_s, nu_n, au_au, nu_nu, au_nu]
      rw [show shF (nu (nu (nu (nu (nu (nu (nu (au (au (au (au (au σ 38 (shF σ (σ.1 42) (σ.2 38) (A).2.2.2.2.2)) 44 b) 45 l) 47 dp) 48 dt) 41 (A).2.1) 49 D) 50 (A).1) 51 ((A).2.2.1 + 1)) 52 c) 53 c) 54 0) (σ.1 42) (shF σ (σ.1 42) (σ.2 38) (A).2.2.2.2.2) b = shF σ (σ.1 42) (σ.2 38) (cut σ (σ.1 42) b) from (shF_shF (σ := σ)).trans shF_cut.symm]
      refine w_iconst (pc' := 112) dX1_search_111 rfl (by decide) ?_
      refine w_ist4 (pc' := 114) dX1_search_112 rfl rfl ?_
      refine w_goto (tgt := 46) dX1_search_114 rfl ?_
      -- at 46: .aload_n 0
      try simp (decide := true) only [au_1, nu_2, au_lt, nu_lt, aw_e, nw_e, au_s, au_n, nu_s, nu_n, au_au, nu_nu, au_nu]
      have hz : srch σ (σ.1 42) most byc least 0 (cut σ (σ.1 42) b) (cutl σ l) c A = kpA (cut σ (σ.1 42) b) c A := rfl
      have hao : accOk most (kpA (cut σ (σ.1 42) b) c A) := ⟨a1, a2, ⟨show 0 ≤ (A).2.2.1 + 1 by omega, show (A).2.2.1 + 1 ≤ most by omega⟩, ⟨show -1 ≤ c by omega, show c ≤ 100000 by omega⟩, a5⟩
      have e3 : ((A).2.2.2.2.1) = (kpA (cut σ (σ.1 42) b) c A).2.2.2.2.1 := rfl
      by_cases hq : endA most (kpA (cut σ (σ.1 42) b) c A)
      · have := hend b l dp dt D c 0 _ (some (xI (-1))) x6 hz hq hao
        simp only [kpA, e1] at this
        exact this
      · have := hup dp dt _ (some (xI (-1))) x6 hz hq hao (fun t _ _ => ⟨rfl, rfl⟩)
        simp only [kpA, e1] at this
        exact this
  | succ o ih =>
    intro D b l dp0 dt0 c A0 x5 x6 hne hD hD0 hb hl hc hA0 hE0 hup hend
    have e1 : ∀ A, accOk most A → ¬ endA most A → (A).2.2.2.2.1 = 0 ∧ (A).2.2.1 < most := by
      intro A hA hE
      obtain ⟨a1, a2, a3, a4, a5⟩ := hA
      have q2 : (A).2.2.1 ≠ most := fun q => hE (Or.inr q)
      refine ⟨?_, by omega⟩
      rcases a5 with q | q
      · exact q
      · exact absurd (Or.inl q) hE
    obtain ⟨z1, z2⟩ := e1 A0 hA0 hE0
    have hA0' := hA0
    obtain ⟨a1, a2, a3, a4, a5⟩ := hA0
    refine w_aload_n (pc' := 47) dX1_search_46 rfl rfl ?_
    refine w_mgi 51 (pc' := 50) dX1_search_47 rfl fX1_319_1 rfl ?_
    refine w_iload_n (pc' := 51) dX1_search_50 rfl rfl ?_
    -- at 51: .if_icmp .ge 326
    try simp (decide := true) only [au_1, nu_2, au_lt, nu_lt, aw_e, nw_e, au_s, au_n, nu_s, nu_n, au_au, nu_nu, au_nu]
    refine w_icmp_ge (pc' := 54) (tgt := 377) dX1_search_51 rfl rfl (fun h_ => False.elim (by first | omega | (simp (decide := true) only [au_1, nu_2, au_lt, nu_lt, aw_e, nw_e, au_s, au_n, nu_s, nu_n, au_au, nu_nu, au_nu] at h_; omega))) (fun h_ => ?_)
    refine w_aload_n (pc' := 55) dX1_search_54 rfl rfl ?_
    refine w_mgi 54 (pc' := 58) dX1_search_55 rfl fX1_325_1 rfl ?_
    -- at 58: .ifCond .ne 319
    try simp (decide := true) only [au_1, nu_2, au_lt, nu_lt, aw_e, nw_e, au_s, au_n, nu_s, nu_n, au_au, nu_nu, au_nu]
    rw [z1]
    refine w_if_ne (pc' := 61) (tgt := 377) dX1_search_58 rfl rfl (fun h_ => False.elim (by first | omega | (simp (decide := true) only [au_1, nu_2, au_lt, nu_lt, aw_e, nw_e, au_s, au_n, nu_s, nu_n, au_au, nu_nu, au_nu] at h_; omega))) (fun h_ => ?_)
    refine w_iload (pc' := 63) dX1_search_61 rfl rfl ?_
    -- at 63: .ifCond .ne 10
    try simp (decide := true) only [au_1, nu_2, au_lt, nu_lt, aw_e, nw_e, au_s, au_n, nu_s, nu_n, au_au, nu_nu, au_nu]
    refine w_if_ne (pc' := 66) (tgt := 73) dX1_search_63 rfl rfl (fun h_ => ?_) (fun h_ => False.elim (by first | omega | (simp (decide := true) only [au_1, nu_2, au_lt, nu_lt, aw_e, nw_e, au_s, au_n, nu_s, nu_n, au_au, nu_nu, au_nu] at h_; omega)))
    refine w_iload (pc' := 75) dX1_search_73 rfl rfl ?_
    -- at 75: .ifCond .eq 73
    try simp (decide := true) only [au_1, nu_2, au_lt, nu_lt, aw_e, nw_e, au_s, au_n, nu_s, nu_n, au_au, nu_nu, au_nu]
    refine w_if_eq (pc' := 78) (tgt := 148) dX1_search_75 rfl rfl (fun h_ => False.elim (by first | omega | (simp (decide := true) only [au_1, nu_2, au_lt, nu_lt, aw_e, nw_e, au_s, au_n, nu_s, nu_n, au_au, nu_nu, au_nu] at h_; omega))) (fun h_ => ?_)
    refine w_aload_n (pc' := 79) dX1_search_78 rfl rfl ?_
    -- at 79: .invokevirtual 335
    try simp (decide := true) only [au_1, nu_2, au_lt, nu_lt, aw_e, nw_e, au_s, au_n, nu_s, nu_n, au_au, nu_nu, au_nu]
    refine w_callV0 (pc' := 82) (mc := 0) (ms := 0) dX1_search_79 rfl tX1_nextPlace q1537 rfl rfl qs72 q1535 ov_o rfl (Nat.le_of_ble_eq_true rfl) (Nat.le_of_ble_eq_true rfl) ?_
    refine c_X1_nextPlace (show kok _ from hK) (show fo1 _ from hF) hf (show bok _ (σ.1 42) b from hb) (show OP _ (σ.1 42) _ _ from hO) (fun pl p0 p1 hp => w_p1 ?_) (fun hn => w_p1 ?_)
    · have hp : nxP σ (σ.1 42) b l pl := hp
      have hnp : npl σ (σ.1 42) (cut σ (σ.1 42) b) (cutl σ l) = pl := npl_hit p0 p1 (nxP_cut hC.2 hp)
      have hZ : srch σ (σ.1 42) most byc least (o + 1) (cut σ (σ.1 42) b) (cutl σ l) c A0 = lpG (fun n A => trG (cdB σ (σ.1 42)) (σ.2 2) most byc least o (cut σ (σ.1 42) b) (cutl σ l) c (npl σ (σ.1 42) (cut σ (σ.1 42) b) (cutl σ l)) (srch σ (σ.1 42) most byc least o) n A) (8 * σ.1 5).toNat 0 A0 := rfl
      rw [hnp] at hZ
      generalize srch σ (σ.1 42) most byc least (o + 1) (cut σ (σ.1 42) b) (cutl σ l) c A0 = Z at *
      have hpin : inF σ (σ.1 42) pl := hp.1.1
      have hb0 : b pl = 0 := hp.2.1
      have hlo := mlr (a := least) (b := (o : Int)) (A := 1000) (B := 64) (by omega) (by omega) (by omega) (by omega)
      have hFdef : ∃ F : Int → SA → SA, F = fun n A => trG (cdB σ (σ.1 42)) (σ.2 2) most byc least o (cut σ (σ.1 42) b) (cutl σ l) c pl (srch σ (σ.1 42) most byc least o) n A := ⟨_, rfl⟩
      obtain ⟨F, hFd⟩ := hFdef
      rw [← hFd] at hZ
      have skp : ∀ (A : SA) (n n' : Int), 0 ≤ n → n ≤ n' → n' ≤ 8 * σ.1 5 → (∀ m, n ≤ m → m < n' → ¬ (cdB σ (σ.1 42) (b) (l) (pl) (m))) → lpG F (8 * σ.1 5 - n).toNat n A = lpG F (8 * σ.1 5 - n').toNat n' A := by
        intro A n n' n0 nn' n1 hno
        have := lpG_skip (F := F) (A := A) (n' - n).toNat (8 * σ.1 5 - n').toNat n (fun m q0 q1 => by
          rw [hFd]
          exact trG_no (fun q => hno m q0 (by omega) ((cdB_cut hC.2 ⟨by omega, by omega⟩).mp q)))
        rw [show (n' - n).toNat + (8 * σ.1 5 - n').toNat = (8 * σ.1 5 - n).toNat by omega, show n + (((n' - n).toNat : Nat) : Int) = n' by omega] at this
        exact this
      have scan : ∀ (k : Nat) (n0 : Int) (dp dt : Int → Int) (A : SA) (dn x6 : Option XV), (8 * σ.1 5 - n0).toNat = k → 0 ≤ n0 → n0 ≤ 8 * σ.1 5 → dp D = pl → dt D = n0 - 1 → (∀ t, 0 ≤ t → t < D → dp t = dp0 t ∧ dt t = dt0 t) → accOk most A → ¬ endA most A → Z = lpG F (8 * σ.1 5 - n0).toNat n0 A → tvW mX1_search (d + 6) K 182 [some (xR mR), some (xI most), some (xI byc), some (xI least), dn, some (xI D), x6] [] (ov (nu (nu (nu (nu (nu (nu (nu (au (au (au (au (au σ 38 (shF σ (σ.1 42) (σ.2 38) (A).2.2.2.2.2)) 44 (b)) 45 (l)) 47 (dp)) 48 (dt)) 41 (A).2.1) 49 ((D + 1))) 50 (A).1) 51 (A).2.2.1) 52 (c)) 53 (A).2.2.2.1) 54 (A).2.2.2.2.1) G0) bc bs := by
        intro k
        induction k using Nat.strongRecOn with
        | ind k ihk =>
          intro n0 dp dt A dn x6 hk n00 n01 hdp hdt hpre hA hE hZA
          obtain ⟨y1, y2⟩ := e1 A hA hE
          have hA' := hA
          obtain ⟨a1, a2, a3, a4, a5⟩ := hA
          have fin : Z = A → ∀ dn, tvW mX1_search (d + 6) K 204 [some (xR mR), some (xI most), some (xI byc), some (xI least), dn, some (xI D), some (xI (-1))] [] (ov (nu (nu (nu (nu (nu (nu (nu (au (au (au (au (au σ 38 (shF σ (σ.1 42) (σ.2 38) (A).2.2.2.2.2)) 44 (b)) 45 (l)) 47 (dp)) 48 (dt)) 41 (A).2.1) 49 ((D + 1))) 50 (A).1) 51 (A).2.2.1) 52 (c)) 53 (A).2.2.2.1) 54 (A).2.2.2.2.1) G0) bc bs := by
            intro hZ2 dn
            refine w_iload (pc' := 206) dX1_search_204 rfl rfl ?_
            -- at 206: .ifCond .lt 68
            try simp (decide := true) only [au_1, nu_2, au_lt, nu_lt, aw_e, nw_e, au_s, au_n, nu_s, nu_n, au_au, nu_nu, au_nu]
            refine w_if_lt (pc' := 209) (tgt := 274) dX1_search_206 rfl rfl (fun h_ => ?_) (fun h_ => False.elim (by first | omega | (simp (decide := true) only [au_1, nu_2, au_lt, nu_lt, aw_e, nw_e, au_s, au_n, nu_s, nu_n, au_au, nu_nu, au_nu] at h_; omega)))
            refine w_iload (pc' := 276) dX1_search_274 rfl rfl ?_
            -- at 276: .ifCond .lt 7
            try simp (decide := true) only [au_1, nu_2, au_lt, nu_lt, aw_e, nw_e, au_s, au_n, nu_s, nu_n, au_au, nu_nu, au_nu]
            refine w_if_lt (pc' := 279) (tgt := 283) dX1_search_276 rfl rfl (fun h_ => ?_) (fun h_ => False.elim (by first | omega | (simp (decide := true) only [au_1, nu_2, au_lt, nu_lt, aw_e, nw_e, au_s, au_n, nu_s, nu_n, au_au, nu_nu, au_nu] at h_; omega)))
            refine w_iconst (pc' := 284) dX1_search_283 rfl (by decide) ?_
            refine w_ist4 (pc' := 286) dX1_search_284 rfl rfl ?_
            refine w_iload (pc' := 288) dX1_search_286 rfl rfl ?_
            -- at 288: .ifCond .ne 16
            try simp (decide := true) only [au_1, nu_2, au_lt, nu_lt, aw_e, nw_e, au_s, au_n, nu_s, nu_n, au_au, nu_nu, au_nu]
            refine w_if_ne (pc' := 291) (tgt := 304) dX1_search_288 rfl rfl (fun h_ => False.elim (by first | omega | (simp (decide := true) only [au_1, nu_2, au_lt, nu_lt, aw_e, nw_e, au_s, au_n, nu_s, nu_n, au_au, nu_nu, au_nu] at h_; omega))) (fun h_ => ?_)
            refine w_aload_n (pc' := 292) dX1_search_291 rfl rfl ?_
            refine w_dup (pc' := 293) dX1_search_292 rfl rfl ?_
            refine w_mgi 49 (pc' := 296) dX1_search_293 rfl fX1_329_1 rfl ?_
            refine w_iconst (pc' := 297) dX1_search_296 rfl (by decide) ?_
            refine w_isub (pc' := 298) dX1_search_297 rfl ⟨by first | omega | (simp (decide := true) only [au_1, nu_2, au_lt, nu_lt, aw_e, nw_e, au_s, au_n, nu_s, nu_n, au_au, nu_nu, au_nu]; omega), by first | omega | (simp (decide := true) only [au_1, nu_2, au_lt, nu_lt, aw_e, nw_e, au_s, au_n, nu_s, nu_n, au_au, nu_nu, au_nu]; omega)⟩ ?_
            refine w_nup 49 (pc' := 301) dX1_search_298 rfl pX1_329_1 rfl trivial ?_
            try simp (decide := true) only [au_1, nu_2, au_lt, nu_lt, aw_e, nw_e, au_s, au_n, nu_s, nu_n, au_au, nu_nu, au_nu]
            refine w_goto (tgt := 46) dX1_search_301 rfl ?_
            -- at 46: .aload_n 0
            try simp (decide := true) only [au_1, nu_2, au_lt, nu_lt, aw_e, nw_e, au_s, au_n, nu_s, nu_n, au_au, nu_nu, au_nu]
            rw [show D + 1 - 1 = D by omega]
            exact hup dp dt A _ _ hZ2 hE hA' hpre
          have last : ∀ m, 0 ≤ m → m ≤ 8 * σ.1 5 → (∀ n', m ≤ n' → n' < 8 * σ.1 5 → ¬ (cdB σ (σ.1 42) (b) (l) (pl) (n'))) → lpG F (8 * σ.1 5 - m).toNat m A = A := by
            intro m m0 m1 hno
            rw [skp A m (8 * σ.1 5) m0 m1 (Int.le_refl _) hno, Int.sub_self]
            rfl
          have cand : ∀ (j : Nat) (n : Int), (8 * σ.1 5 - n).toNat = j → n0 ≤ n → n < 8 * σ.1 5 → (cdB σ (σ.1 42) (b) (l) (pl) (n)) → Z = lpG F (8 * σ.1 5 - n).toNat n A → ∀ dn, tvW mX1_search (d + 6) K 204 [some (xR mR), some (xI most), some (xI byc), some (xI least), dn, some (xI D), some (xI n)] [] (ov (nu (nu (nu (nu (nu (nu (nu (au (au (au (au (au σ 38 (shF σ (σ.1 42) (σ.2 38) (A).2.2.2.2.2)) 44 (b)) 45 (l)) 47 (dp)) 48 (dt)) 41 (A).2.1) 49 ((D + 1))) 50 (A).1) 51 (A).2.2.1) 52 (c)) 53 (A).2.2.2.1) 54 (A).2.2.2.2.1) G0) bc bs := by
            intro j
            induction j using Nat.strongRecOn with
            | ind j ihj =>
              intro n hj m0 m1 hcn hZn dn
              have hkn : 0 ≤ n / 8 ∧ n / 8 < σ.1 5 := by omega
              obtain ⟨-, -, hkc, -⟩ := hK.2 _ hkn.1 hkn.2
              have hln := hl _ hkn.1 hkn.2
              have hlp := hcn.1
              have hstep : lpG F (8 * σ.1 5 - n).toNat n A = lpG F (8 * σ.1 5 - (n + 1)).toNat (n + 1) (F n A) := by
                rw [show (8 * σ.1 5 - n).toNat = (8 * σ.1 5 - (n + 1)).toNat + 1 by omega]
                rfl
              have hFe : F n A = trG (cdB σ (σ.1 42)) (σ.2 2) most byc least o (cut σ (σ.1 42) b) (cutl σ l) c pl (srch σ (σ.1 42) most byc least o) n A := by rw [hFd]
              have hFn := trG_yes (kc := σ.2 2) (byc := byc) (least := least) (o := (o : Int)) (c := c) (nx := srch σ (σ.1 42) most byc least o) ((cdB_cut hC.2 ⟨by omega, m1⟩).mpr hcn) hE
              rw [← hFe] at hFn
              rw [hstep] at hZn
              have notp : ¬ (byc ≠ 0 ∧ 0 ≤ (A).2.2.2.1 ∧ (A).2.2.2.1 ≤ c + σ.2 2 (n / 8) + least * o) → ∀ dn, tvW mX1_search (d + 6) K 274 [some (xR mR), some (xI most), some (xI byc), some (xI least), dn, some (xI D), some (xI n)] [] (ov (nu (nu (nu (nu (nu (nu (nu (au (au (au (au (au σ 38 (shF σ (σ.1 42) (σ.2 38) (A).2.2.2.2.2)) 44 (b)) 45 (l)) 47 (dp)) 48 (dt)) 41 (A).2.1) 49 ((D + 1))) 50 (A).1) 51 (A).2.2.1) 52 (c)) 53 (A).2.2.2.1) 54 (A).2.2.2.2.1) G0) bc bs := by
                intro q dn
                rw [if_neg q] at hFn
                have outb : ((A).1 = 30000 ∨ (A).2.1 = 600000) → tvW mX1_search (d + 6) K 324 [some (xR mR), some (xI most), some (xI byc), some (xI least), some (xI 1), some (xI D), some (xI n)] [] (ov (nu (nu (nu (nu (nu (nu (nu (au (au (au (au (au σ 38 (shF σ (σ.1 42) (σ.2 38) (A).2.2.2.2.2)) 44 (b)) 45 (l)) 47 (dp)) 48 (dt)) 41 (A).2.1) 49 ((D + 1))) 50 (A).1) 51 (A).2.2.1) 52 (c)) 53 (A).2.2.2.1) 54 (A).2.2.2.2.1) G0) bc bs := by
                  intro q2
                  rw [if_pos q2] at hFn
                  rw [hFn, lpG_end (fun m => by rw [hFd]; exact trG_end (Or.inl rfl))] at hZn
                  have := hend b l dp dt (D + 1) c 1 _ (some (xI D)) (some (xI n)) hZn (Or.inl rfl) ⟨a1, a2, a3, a4, Or.inr rfl⟩
                  refine w_aload_n (pc' := 325) dX1_search_324 rfl rfl ?_
                  refine w_iconst (pc' := 326) dX1_search_325 rfl (by decide) ?_
                  refine w_nup 54 (pc' := 329) dX1_search_326 rfl pX1_325_1 rfl (Or.inr rfl) ?_
                  try simp (decide := true) only [au_1, nu_2, au_lt, nu_lt, aw_e, nw_e, au_s, au_n, nu_s, nu_n, au_au, nu_nu, au_nu]
                  refine w_goto (tgt := 46) dX1_search_329 rfl ?_
                  -- at 46: .aload_n 0
                  try simp (decide := true) only [au_1, nu_2, au_lt, nu_lt, aw_e, nw_e, au_s, au_n, nu_s, nu_n, au_au, nu_nu, au_nu]
                  exact this
                refine w_iload (pc' := 276) dX1_search_274 rfl rfl ?_
                -- at 276: .ifCond .lt 7
                try simp (decide := true) only [au_1, nu_2, au_lt, nu_lt, aw_e, nw_e, au_s, au_n, nu_s, nu_n, au_au, nu_nu, au_nu]
                refine w_if_lt (pc' := 279) (tgt := 283) dX1_search_276 rfl rfl (fun h_ => False.elim (by first | omega | (simp (decide := true) only [au_1, nu_2, au_lt, nu_lt, aw_e, nw_e, au_s, au_n, nu_s, nu_n, au_au, nu_nu, au_nu] at h_; omega))) (fun h_ => ?_)
                refine w_iconst (pc' := 280) dX1_search_279 rfl (by decide) ?_
                refine w_goto (tgt := 284) dX1_search_280 rfl ?_
                refine w_ist4 (pc' := 286) dX1_search_284 rfl rfl ?_
                refine w_iload (pc' := 288) dX1_search_286 rfl rfl ?_
                -- at 288: .ifCond .ne 16
                try simp (decide := true) only [au_1, nu_2, au_lt, nu_lt, aw_e, nw_e, au_s, au_n, nu_s, nu_n, au_au, nu_nu, au_nu]
                refine w_if_ne (pc' := 291) (tgt := 304) dX1_search_288 rfl rfl (fun h_ => ?_) (fun h_ => False.elim (by first | omega | (simp (decide := true) only [au_1, nu_2, au_lt, nu_lt, aw_e, nw_e, au_s, au_n, nu_s, nu_n, au_au, nu_nu, au_nu] at h_; omega)))
                refine w_aload_n (pc' := 305) dX1_search_304 rfl rfl ?_
                refine w_mgi 50 (pc' := 308) dX1_search_305 rfl fX1_316_1 rfl ?_
                refine w_sipush (pc' := 311) dX1_search_308 rfl (by decide +kernel) (by decide) ?_
                -- at 311: .if_icmp .eq 13
                try simp (decide := true) only [au_1, nu_2, au_lt, nu_lt, aw_e, nw_e, au_s, au_n, nu_s, nu_n, au_au, nu_nu, au_nu]
                refine w_icmp_eq (pc' := 314) (tgt := 324) dX1_search_311 rfl rfl (fun g1 => ?_) (fun g1 => ?_)
                · exact outb (Or.inl g1)
                · refine w_aload_n (pc' := 315) dX1_search_314 rfl rfl ?_
                  refine w_mgi 41 (pc' := 318) dX1_search_315 rfl fX1_344_1 rfl ?_
                  refine w_ldcw (z := 600000) (pc' := 321) dX1_search_318 rfl q1555 (by decide +kernel) (by decide) ?_
                  -- at 321: .if_icmp .ne 11
                  try simp (decide := true) only [au_1, nu_2, au_lt, nu_lt, aw_e, nw_e, au_s, au_n, nu_s, nu_n, au_au, nu_nu, au_nu]
                  refine w_icmp_ne (pc' := 324) (tgt := 332) dX1_search_321 rfl rfl (fun g2 => ?_) (fun g2 => ?_)
                  · rw [if_neg (fun z => z.elim g1 g2)] at hFn
                    refine w_aload_n (pc' := 333) dX1_search_332 rfl rfl ?_
                    refine w_dup (pc' := 334) dX1_search_333 rfl rfl ?_
                    refine w_mgi 50 (pc' := 337) dX1_search_334 rfl fX1_316_1 rfl ?_
                    refine w_iconst (pc' := 338) dX1_search_337 rfl (by decide) ?_
                    refine w_iadd (pc' := 339) dX1_search_338 rfl ⟨by first | omega | (simp (decide := true) only [au_1, nu_2, au_lt, nu_lt, aw_e, nw_e, au_s, au_n, nu_s, nu_n, au_au, nu_nu, au_nu]; omega), by first | omega | (simp (decide := true) only [au_1, nu_2, au_lt, nu_lt, aw_e, nw_e, au_s, au_n, nu_s, nu_n, au_au, nu_nu, au_nu]; omega)⟩ ?_
                    refine w_nup 50 (pc' := 342) dX1_search_339 rfl pX1_316_1 rfl trivial ?_
                    try simp (decide := true) only [au_1, nu_2, au_lt, nu_lt, aw_e, nw_e, au_s, au_n, nu_s, nu_n, au_au, nu_nu, au_nu]
                    refine w_aload_n (pc' := 343) dX1_search_342 rfl rfl ?_
                    refine w_dup (pc' := 344) dX1_search_343 rfl rfl ?_
                    refine w_mgi 41 (pc' := 347) dX1_search_344 rfl fX1_344_1 rfl ?_
                    refine w_iconst (pc' := 348) dX1_search_347 rfl (by decide) ?_
                    refine w_iadd (pc' := 349) dX1_search_348 rfl ⟨by first | omega | (simp (decide := true) only [au_1, nu_2, au_lt, nu_lt, aw_e, nw_e, au_s, au_n, nu_s, nu_n, au_au, nu_nu, au_nu]; omega), by first | omega | (simp (decide := true) only [au_1, nu_2, au_lt, nu_lt, aw_e, nw_e, au_s, au_n, nu_s, nu_n, au_au, nu_nu, au_nu]; omega)⟩ ?_
                    refine w_nup 41 (pc' := 352) dX1_search_349 rfl pX1_344_1 rfl trivial ?_
                    try simp (decide := true) only [au_1, nu_2, au_lt, nu_lt, aw_e, nw_e, au_s, au_n, nu_s, nu_n, au_au, nu_nu, au_nu]
                    refine w_aload_n (pc' := 353) dX1_search_352 rfl rfl ?_
                    refine w_mga 48 (pc' := 356) dX1_search_353 rfl fX1_115_1 rfl ?_
                    refine w_iload (pc' := 358) dX1_search_356 rfl rfl ?_
                    refine w_iload (pc' := 360) dX1_search_358 rfl rfl ?_
                    refine w_aui (pc' := 361) dX1_search_360 rfl rfl (by first | omega | (simp (decide := true) only [au_1, nu_2, au_lt, nu_lt, aw_e, nw_e, au_s, au_n, nu_s, nu_n, au_au, nu_nu, au_nu]; omega)) (by first | omega | (simp (decide := true) only [au_1, nu_2, au_lt, nu_lt, aw_e, nw_e, au_s, au_n, nu_s, nu_n, au_au, nu_nu, au_nu]; omega)) ?_
                    try simp (decide := true) only [au_1, nu_2, au_lt, nu_lt, aw_e, nw_e, au_s, au_n, nu_s, nu_n, au_au, nu_nu, au_nu]
                    refine w_aload_n (pc' := 362) dX1_search_361 rfl rfl ?_
                    refine w_aload_n (pc' := 363) dX1_search_362 rfl rfl ?_
                    refine w_mga 47 (pc' := 366) dX1_search_363 rfl fX1_112_1 rfl ?_
                    refine w_iload (pc' := 368) dX1_search_366 rfl rfl ?_
                    refine w_mild (pc' := 369) dX1_search_368 rfl rfl (by first | omega | (simp (decide := true) only [au_1, nu_2, au_lt, nu_lt, aw_e, nw_e, au_s, au_n, nu_s, nu_n, au_au, nu_nu, au_nu]; omega)) (by first | omega | (simp (decide := true) only [au_1, nu_2, au_lt, nu_lt, aw_e, nw_e, au_s, au_n, nu_s, nu_n, au_au, nu_nu, au_nu]; omega)) ?_
                    -- at 369: .iload 6
                    try simp (decide := true) only [au_1, nu_2, au_lt, nu_lt, aw_e, nw_e, au_s, au_n, nu_s, nu_n, au_au, nu_nu, au_nu]
                    rw [hdp]
                    refine w_iload (pc' := 371) dX1_search_369 rfl rfl ?_
                    -- at 371: .invokevirtual 348
                    try simp (decide := true) only [au_1, nu_2, au_lt, nu_lt, aw_e, nw_e, au_s, au_n, nu_s, nu_n, au_au, nu_nu, au_nu]
                    refine w_callV2 (pc' := 374) (mc := 0) (ms := 0) dX1_search_371 rfl tX1_lay q1558 rfl rfl qs77 q1556 ov_o rfl (Nat.le_of_ble_eq_true rfl) (Nat.le_of_ble_eq_true rfl) ?_
                    refine c_X1_lay (show kok _ from hK) ⟨p0, p1⟩ ⟨by omega, m1⟩ (show -1000 ≤ l (n / 8) ∧ l (n / 8) ≤ 1000 by omega) ?_
                    refine w_p0 ?_
                    try simp (decide := true) only [au_1, nu_2, au_lt, nu_lt, aw_e, nw_e, au_s, au_n, nu_s, nu_n, au_au, nu_nu, au_nu]
                    rw [w32_of ⟨by omega, by omega⟩]
                    refine w_goto (tgt := 46) dX1_search_374 rfl ?_
                    -- at 46: .aload_n 0
                    try simp (decide := true) only [au_1, nu_2, au_lt, nu_lt, aw_e, nw_e, au_s, au_n, nu_s, nu_n, au_au, nu_nu, au_nu]
                    have c1 := cut_iset (v := n + 1) (b := b) hpin
                    have c2 := cutl_iset (v := l (n / 8) - 1) (l := l) hkn
                    have c3 : cutl σ l (n / 8) = l (n / 8) := cutl_in hkn
                    rw [c3, ← c1, ← c2] at hFn
                    refine ih (D + 1) (iset b pl (n + 1)) (iset l (n / 8) (l (n / 8) - 1)) dp (iset dt D n) (c + σ.2 2 (n / 8)) ((A).1 + 1, (A).2.1 + 1, (A).2.2.1, (A).2.2.2.1, (A).2.2.2.2.1, (A).2.2.2.2.2) _ _ ?_ (by omega) (by omega) ?_ ?_ ⟨by omega, by omega⟩ ⟨⟨by show 0 ≤ (A).1 + 1; omega, by show (A).1 + 1 ≤ 30000; omega⟩, ⟨by show 0 ≤ (A).2.1 + 1; omega, by show (A).2.1 + 1 ≤ 600000; omega⟩, a3, a4, a5⟩ hE ?_ ?_
                    · rw [ne_set p0 p1 hp.1 hb0 (by omega)]; omega
                    · intro k k0 k1 k2
                      by_cases e : k = pl
                      · rw [e, iset_s]; omega
                      · rw [iset_n e]; exact hb k k0 k1 k2
                    · intro k k0 k1
                      by_cases e : k = n / 8
                      · rw [e, iset_s]; omega
                      · rw [iset_n e]; exact hl k k0 k1
                    · intro dp' dt' A' y5 y6 hA1 hE1 hao1 hpre1
                      rw [hA1] at hFn
                      rw [hFn] at hZn
                      obtain ⟨w1, w2⟩ := e1 A' hao1 hE1
                      have hd1 := hpre1 D hD0 (by omega)
                      rw [hdp, iset_s] at hd1
                      have hdD := hd1.1
                      have hkk : kOf (n + 1) = n / 8 := by unfold kOf; omega
                      have ra := hao1
                      obtain ⟨ra1, ra2, ra3, ra4, ra5⟩ := ra
                      refine w_aload_n (pc' := 47) dX1_search_46 rfl rfl ?_
                      refine w_mgi 51 (pc' := 50) dX1_search_47 rfl fX1_319_1 rfl ?_
                      refine w_iload_n (pc' := 51) dX1_search_50 rfl rfl ?_
                      -- at 51: .if_icmp .ge 326
                      try simp (decide := true) only [au_1, nu_2, au_lt, nu_lt, aw_e, nw_e, au_s, au_n, nu_s, nu_n, au_au, nu_nu, au_nu]
                      refine w_icmp_ge (pc' := 54) (tgt := 377) dX1_search_51 rfl rfl (fun h_ => False.elim (by first | omega | (simp (decide := true) only [au_1, nu_2, au_lt, nu_lt, aw_e, nw_e, au_s, au_n, nu_s, nu_n, au_au, nu_nu, au_nu] at h_; omega))) (fun h_ => ?_)
                      refine w_aload_n (pc' := 55) dX1_search_54 rfl rfl ?_
                      refine w_mgi 54 (pc' := 58) dX1_search_55 rfl fX1_325_1 rfl ?_
                      -- at 58: .ifCond .ne 319
                      try simp (decide := true) only [au_1, nu_2, au_lt, nu_lt, aw_e, nw_e, au_s, au_n, nu_s, nu_n, au_au, nu_nu, au_nu]
                      rw [w1]
                      refine w_if_ne (pc' := 61) (tgt := 377) dX1_search_58 rfl rfl (fun h_ => False.elim (by first | omega | (simp (decide := true) only [au_1, nu_2, au_lt, nu_lt, aw_e, nw_e, au_s, au_n, nu_s, nu_n, au_au, nu_nu, au_nu] at h_; omega))) (fun h_ => ?_)
                      refine w_iload (pc' := 63) dX1_search_61 rfl rfl ?_
                      -- at 63: .ifCond .ne 10
                      try simp (decide := true) only [au_1, nu_2, au_lt, nu_lt, aw_e, nw_e, au_s, au_n, nu_s, nu_n, au_au, nu_nu, au_nu]
                      refine w_if_ne (pc' := 66) (tgt := 73) dX1_search_63 rfl rfl (fun h_ => False.elim (by first | omega | (simp (decide := true) only [au_1, nu_2, au_lt, nu_lt, aw_e, nw_e, au_s, au_n, nu_s, nu_n, au_au, nu_nu, au_nu] at h_; omega))) (fun h_ => ?_)
                      refine w_aload_n (pc' := 67) dX1_search_66 rfl rfl ?_
                      refine w_mgi 49 (pc' := 70) dX1_search_67 rfl fX1_329_1 rfl ?_
                      -- at 70: .ifCond .le 307
                      try simp (decide := true) only [au_1, nu_2, au_lt, nu_lt, aw_e, nw_e, au_s, au_n, nu_s, nu_n, au_au, nu_nu, au_nu]
                      refine w_if_le (pc' := 73) (tgt := 377) dX1_search_70 rfl rfl (fun h_ => False.elim (by first | omega | (simp (decide := true) only [au_1, nu_2, au_lt, nu_lt, aw_e, nw_e, au_s, au_n, nu_s, nu_n, au_au, nu_nu, au_nu] at h_; omega))) (fun h_ => ?_)
                      refine w_iload (pc' := 75) dX1_search_73 rfl rfl ?_
                      -- at 75: .ifCond .eq 73
                      try simp (decide := true) only [au_1, nu_2, au_lt, nu_lt, aw_e, nw_e, au_s, au_n, nu_s, nu_n, au_au, nu_nu, au_nu]
                      refine w_if_eq (pc' := 78) (tgt := 148) dX1_search_75 rfl rfl (fun h_ => ?_) (fun h_ => False.elim (by first | omega | (simp (decide := true) only [au_1, nu_2, au_lt, nu_lt, aw_e, nw_e, au_s, au_n, nu_s, nu_n, au_au, nu_nu, au_nu] at h_; omega)))
                      refine w_aload_n (pc' := 149) dX1_search_148 rfl rfl ?_
                      refine w_mgi 49 (pc' := 152) dX1_search_149 rfl fX1_329_1 rfl ?_
                      refine w_iconst (pc' := 153) dX1_search_152 rfl (by decide) ?_
                      refine w_isub (pc' := 154) dX1_search_153 rfl ⟨by first | omega | (simp (decide := true) only [au_1, nu_2, au_lt, nu_lt, aw_e, nw_e, au_s, au_n, nu_s, nu_n, au_au, nu_nu, au_nu]; omega), by first | omega | (simp (decide := true) only [au_1, nu_2, au_lt, nu_lt, aw_e, nw_e, au_s, au_n, nu_s, nu_n, au_au, nu_nu, au_nu]; omega)⟩ ?_
                      -- at 154: .istore 5
                      try simp (decide := true) only [au_1, nu_2, au_lt, nu_lt, aw_e, nw_e, au_s, au_n, nu_s, nu_n, au_au, nu_nu, au_nu]
                      rw [show D + 1 - 1 = D by omega]
                      refine w_ist5 (pc' := 156) dX1_search_154 rfl rfl ?_
                      refine w_aload_n (pc' := 157) dX1_search_156 rfl rfl ?_
                      refine w_mga 44 (pc' := 160) dX1_search_157 rfl fX1_103_1 rfl ?_
                      refine w_aload_n (pc' := 161) dX1_search_160 rfl rfl ?_
                      refine w_mga 47 (pc' := 164) dX1_search_161 rfl fX1_112_1 rfl ?_
                      refine w_iload (pc' := 166) dX1_search_164 rfl rfl ?_
                      refine w_mild (pc' := 167) dX1_search_166 rfl rfl (by first | omega | (simp (decide := true) only [au_1, nu_2, au_lt, nu_lt, aw_e, nw_e, au_s, au_n, nu_s, nu_n, au_au, nu_nu, au_nu]; omega)) (by first | omega | (simp (decide := true) only [au_1, nu_2, au_lt, nu_lt, aw_e, nw_e, au_s, au_n, nu_s, nu_n, au_au, nu_nu, au_nu]; omega)) ?_
                      -- at 167: .iaload
                      try simp (decide := true) only [au_1, nu_2, au_lt, nu_lt, aw_e, nw_e, au_s, au_n, nu_s, nu_n, au_au, nu_nu, au_nu]
                      rw [hdD]
                      refine w_mild (pc' := 168) dX1_search_167 rfl rfl (by first | omega | (simp (decide := true) only [au_1, nu_2, au_lt, nu_lt, aw_e, nw_e, au_s, au_n, nu_s, nu_n, au_au, nu_nu, au_nu]; omega)) (by first | omega | (simp (decide := true) only [au_1, nu_2, au_lt, nu_lt, aw_e, nw_e, au_s, au_n, nu_s, nu_n, au_au, nu_nu, au_nu]; omega)) ?_
                      -- at 168: .ifCond .eq 14
                      try simp (decide := true) only [au_1, nu_2, au_lt, nu_lt, aw_e, nw_e, au_s, au_n, nu_s, nu_n, au_au, nu_nu, au_nu]
                      rw [iset_s]
                      refine w_if_eq (pc' := 171) (tgt := 182) dX1_search_168 rfl rfl (fun h_ => False.elim (by first | omega | (simp (decide := true) only [au_1, nu_2, au_lt, nu_lt, aw_e, nw_e, au_s, au_n, nu_s, nu_n, au_au, nu_nu, au_nu] at h_; omega))) (fun h_ => ?_)
                      refine w_aload_n (pc' := 172) dX1_search_171 rfl rfl ?_
                      refine w_aload_n (pc' := 173) dX1_search_172 rfl rfl ?_
                      refine w_mga 47 (pc' := 176) dX1_search_173 rfl fX1_112_1 rfl ?_
                      refine w_iload (pc' := 178) dX1_search_176 rfl rfl ?_
                      refine w_mild (pc' := 179) dX1_search_178 rfl rfl (by first | omega | (simp (decide := true) only [au_1, nu_2, au_lt, nu_lt, aw_e, nw_e, au_s, au_n, nu_s, nu_n, au_au, nu_nu, au_nu]; omega)) (by first | omega | (simp (decide := true) only [au_1, nu_2, au_lt, nu_lt, aw_e, nw_e, au_s, au_n, nu_s, nu_n, au_au, nu_nu, au_nu]; omega)) ?_
                      -- at 179: .invokevirtual 341
                      try simp (decide := true) only [au_1, nu_2, au_lt, nu_lt, aw_e, nw_e, au_s, au_n, nu_s, nu_n, au_au, nu_nu, au_nu]
                      rw [hdD]
                      refine w_callV1 (pc' := 182) (mc := 0) (ms := 0) dX1_search_179 rfl tX1_takeBack q1553 rfl rfl qs76 q1551 ov_o rfl (Nat.le_of_ble_eq_true rfl) (Nat.le_of_ble_eq_true rfl) ?_
                      refine c_X1_takeBack (show kok _ from hK) ⟨p0, p1⟩ (show 1 ≤ iset b pl (n + 1) pl ∧ iset b pl (n + 1) pl ≤ 8 * σ.1 5 by rw [iset_s]; omega) (show -1000 ≤ iset l (n / 8) (l (n / 8) - 1) (kOf (iset b pl (n + 1) pl)) ∧ iset l (n / 8) (l (n / 8) - 1) (kOf (iset b pl (n + 1) pl)) ≤ 1000 by rw [iset_s, hkk, iset_s]; omega) (show -1000000 ≤ c + σ.2 2 (n / 8) ∧ c + σ.2 2 (n / 8) ≤ 1000000 by omega) ?_
                      refine w_p0 ?_
                      try simp (decide := true) only [au_1, nu_2, au_lt, nu_lt, aw_e, nw_e, au_s, au_n, nu_s, nu_n, au_au, nu_nu, au_nu]
                      rw [iset_s, hkk, iset_s, iset_bk hb0, iset_bk (show l (n / 8) = l (n / 8) - 1 + 1 by omega), show c + σ.2 2 (n / 8) - σ.2 2 (n / 8) = c by omega, ← w1]
                      exact ihk (8 * σ.1 5 - (n + 1)).toNat (by omega) (n + 1) dp' dt' A' _ _ rfl (by omega) (by omega) hdD (by rw [hd1.2]; omega) (fun t t0 t1 => by
                        have q1 := hpre1 t t0 (by omega)
                        have q2 := hpre t t0 t1
                        rw [iset_n (show t ≠ D by omega)] at q1
                        exact ⟨q1.1.trans q2.1, q1.2.trans q2.2⟩) hao1 hE1 hZn
                    · intro b' l' dp' dt' dep' co' dn' A' y5 y6 hA1 hE1 hao1
                      rw [hA1] at hFn
                      rw [hFn, lpG_end (fun m => by rw [hFd]; exact trG_end hE1)] at hZn
                      exact hend b' l' dp' dt' dep' co' dn' A' y5 y6 hZn hE1 hao1
                  · exact outb (Or.inr g2)
              refine w_iload (pc' := 206) dX1_search_204 rfl rfl ?_
              -- at 206: .ifCond .lt 68
              try simp (decide := true) only [au_1, nu_2, au_lt, nu_lt, aw_e, nw_e, au_s, au_n, nu_s, nu_n, au_au, nu_nu, au_nu]
              refine w_if_lt (pc' := 209) (tgt := 274) dX1_search_206 rfl rfl (fun h_ => False.elim (by first | omega | (simp (decide := true) only [au_1, nu_2, au_lt, nu_lt, aw_e, nw_e, au_s, au_n, nu_s, nu_n, au_au, nu_nu, au_nu] at h_; omega))) (fun h_ => ?_)
              refine w_iload_n (pc' := 210) dX1_search_209 rfl rfl ?_
              -- at 210: .ifCond .eq 64
              try simp (decide := true) only [au_1, nu_2, au_lt, nu_lt, aw_e, nw_e, au_s, au_n, nu_s, nu_n, au_au, nu_nu, au_nu]
              refine w_if_eq (pc' := 213) (tgt := 274) dX1_search_210 rfl rfl (fun g1 => ?_) (fun g1 => ?_)
              · exact notp (fun q => q.1 g1) _
              · refine w_aload_n (pc' := 214) dX1_search_213 rfl rfl ?_
                refine w_mgi 53 (pc' := 217) dX1_search_214 rfl fX1_322_1 rfl ?_
                -- at 217: .ifCond .lt 57
                try simp (decide := true) only [au_1, nu_2, au_lt, nu_lt, aw_e, nw_e, au_s, au_n, nu_s, nu_n, au_au, nu_nu, au_nu]
                refine w_if_lt (pc' := 220) (tgt := 274) dX1_search_217 rfl rfl (fun g2 => ?_) (fun g2 => ?_)
                · exact notp (fun q => by have := q.2.1; omega) _
                · refine w_aload_n (pc' := 221) dX1_search_220 rfl rfl ?_
                  refine w_mgi 52 (pc' := 224) dX1_search_221 rfl fX1_313_1 rfl ?_
                  refine w_aload_n (pc' := 225) dX1_search_224 rfl rfl ?_
                  refine w_mga 2 (pc' := 228) dX1_search_225 rfl fX1_16_1 rfl ?_
                  refine w_iload (pc' := 230) dX1_search_228 rfl rfl ?_
                  refine w_bipush (pc' := 232) dX1_search_230 rfl (by decide +kernel) (by decide) ?_
                  refine w_idiv (pc' := 233) dX1_search_232 rfl (by first | omega | (simp (decide := true) only [au_1, nu_2, au_lt, nu_lt, aw_e, nw_e, au_s, au_n, nu_s, nu_n, au_au, nu_nu, au_nu]; omega)) (by first | omega | (simp (decide := true) only [au_1, nu_2, au_lt, nu_lt, aw_e, nw_e, au_s, au_n, nu_s, nu_n, au_au, nu_nu, au_nu]; omega)) ?_
                  refine w_mild (pc' := 234) dX1_search_233 rfl rfl (by first | omega | (simp (decide := true) only [au_1, nu_2, au_lt, nu_lt, aw_e, nw_e, au_s, au_n, nu_s, nu_n, au_au, nu_nu, au_nu]; omega)) (by first | omega | (simp (decide := true) only [au_1, nu_2, au_lt, nu_lt, aw_e, nw_e, au_s, au_n, nu_s, nu_n, au_au, nu_nu, au_nu]; omega)) ?_
                  refine w_iadd (pc' := 235) dX1_search_234 rfl ⟨by first | omega | (simp (decide := true) only [au_1, nu_2, au_lt, nu_lt, aw_e, nw_e, au_s, au_n, nu_s, nu_n, au_au, nu_nu, au_nu]; omega), by first | omega | (simp (decide := true) only [au_1, nu_2, au_lt, nu_lt, aw_e, nw_e, au_s, au_n, nu_s, nu_n, au_au, nu_nu, au_nu]; omega)⟩ ?_
                  refine w_iload_n (pc' := 236) dX1_search_235 rfl rfl ?_
                  refine w_aload_n (pc' := 237) dX1_search_236 rfl rfl ?_
                  refine w_mgi 43 (pc' := 240) dX1_search_237 rfl fX1_307_1 rfl ?_
                  refine w_aload_n (pc' := 241) dX1_search_240 rfl rfl ?_
                  refine w_mgi 49 (pc' := 244) dX1_search_241 rfl fX1_329_1 rfl ?_
                  refine w_isub (pc' := 245) dX1_search_244 rfl ⟨by first | omega | (simp (decide := true) only [au_1, nu_2, au_lt, nu_lt, aw_e, nw_e, au_s, au_n, nu_s, nu_n, au_au, nu_nu, au_nu]; omega), by first | omega | (simp (decide := true) only [au_1, nu_2, au_lt, nu_lt, aw_e, nw_e, au_s, au_n, nu_s, nu_n, au_au, nu_nu, au_nu]; omega)⟩ ?_
                  -- at 245: .imul
                  try simp (decide := true) only [au_1, nu_2, au_lt, nu_lt, aw_e, nw_e, au_s, au_n, nu_s, nu_n, au_au, nu_nu, au_nu]
                  rw [show σ.1 43 - (D + 1) = (o : Int) by omega]
                  refine w_imul (pc' := 246) dX1_search_245 rfl ⟨by first | omega | (simp (decide := true) only [au_1, nu_2, au_lt, nu_lt, aw_e, nw_e, au_s, au_n, nu_s, nu_n, au_au, nu_nu, au_nu]; omega), by first | omega | (simp (decide := true) only [au_1, nu_2, au_lt, nu_lt, aw_e, nw_e, au_s, au_n, nu_s, nu_n, au_au, nu_nu, au_nu]; omega)⟩ ?_
                  refine w_iadd (pc' := 247) dX1_search_246 rfl ⟨by first | omega | (simp (decide := true) only [au_1, nu_2, au_lt, nu_lt, aw_e, nw_e, au_s, au_n, nu_s, nu_n, au_au, nu_nu, au_nu]; omega), by first | omega | (simp (decide := true) only [au_1, nu_2, au_lt, nu_lt, aw_e, nw_e, au_s, au_n, nu_s, nu_n, au_au, nu_nu, au_nu]; omega)⟩ ?_
                  refine w_aload_n (pc' := 248) dX1_search_247 rfl rfl ?_
                  refine w_mgi 53 (pc' := 251) dX1_search_248 rfl fX1_322_1 rfl ?_
                  -- at 251: .if_icmp .lt 23
                  try simp (decide := true) only [au_1, nu_2, au_lt, nu_lt, aw_e, nw_e, au_s, au_n, nu_s, nu_n, au_au, nu_nu, au_nu]
                  refine w_icmp_lt (pc' := 254) (tgt := 274) dX1_search_251 rfl rfl (fun g3 => ?_) (fun g3 => ?_)
                  · exact notp (fun q => by have := q.2.2; omega) _
                  · rw [if_pos ⟨g1, by omega, by omega⟩] at hFn
                    rw [hFn] at hZn
                    refine w_aload_n (pc' := 255) dX1_search_254 rfl rfl ?_
                    refine w_aload_n (pc' := 256) dX1_search_255 rfl rfl ?_
                    refine w_mga 47 (pc' := 259) dX1_search_256 rfl fX1_112_1 rfl ?_
                    refine w_iload (pc' := 261) dX1_search_259 rfl rfl ?_
                    refine w_mild (pc' := 262) dX1_search_261 rfl rfl (by first | omega | (simp (decide := true) only [au_1, nu_2, au_lt, nu_lt, aw_e, nw_e, au_s, au_n, nu_s, nu_n, au_au, nu_nu, au_nu]; omega)) (by first | omega | (simp (decide := true) only [au_1, nu_2, au_lt, nu_lt, aw_e, nw_e, au_s, au_n, nu_s, nu_n, au_au, nu_nu, au_nu]; omega)) ?_
                    -- at 262: .iload 6
                    try simp (decide := true) only [au_1, nu_2, au_lt, nu_lt, aw_e, nw_e, au_s, au_n, nu_s, nu_n, au_au, nu_nu, au_nu]
                    rw [hdp]
                    refine w_iload (pc' := 264) dX1_search_262 rfl rfl ?_
                    refine w_iconst (pc' := 265) dX1_search_264 rfl (by decide) ?_
                    refine w_iadd (pc' := 266) dX1_search_265 rfl ⟨by first | omega | (simp (decide := true) only [au_1, nu_2, au_lt, nu_lt, aw_e, nw_e, au_s, au_n, nu_s, nu_n, au_au, nu_nu, au_nu]; omega), by first | omega | (simp (decide := true) only [au_1, nu_2, au_lt, nu_lt, aw_e, nw_e, au_s, au_n, nu_s, nu_n, au_au, nu_nu, au_nu]; omega)⟩ ?_
                    -- at 266: .invokevirtual 304
                    try simp (decide := true) only [au_1, nu_2, au_lt, nu_lt, aw_e, nw_e, au_s, au_n, nu_s, nu_n, au_au, nu_nu, au_nu]
                    refine w_callV2 (pc' := 269) (mc := 0) (ms := 0) dX1_search_266 rfl tX1_nextFitting q1545 rfl rfl qs74 q1543 ov_o rfl (Nat.le_of_ble_eq_true rfl) (Nat.le_of_ble_eq_true rfl) ?_
                    refine c_X1_nextFitting (show kok _ from hK) (show fo1 _ from hF) hf (show bok _ (σ.1 42) b from hb) ⟨p0, p1⟩ (show 0 ≤ n + 1 ∧ n + 1 ≤ 8 * σ.1 5 by omega) (fun n' m0' m1' hc' hn' => w_p1 ?_) (fun hn' => w_p1 ?_)
                    · have m1' : n' < 8 * σ.1 5 := m1'
                      refine w_ist6 (pc' := 271) dX1_search_269 rfl rfl ?_
                      refine w_goto (tgt := 204) dX1_search_271 rfl ?_
                      -- at 204: .iload 6
                      try simp (decide := true) only [au_1, nu_2, au_lt, nu_lt, aw_e, nw_e, au_s, au_n, nu_s, nu_n, au_au, nu_nu, au_nu]
                      exact ihj (8 * σ.1 5 - n').toNat (by omega) n' rfl (by omega) m1' hc' (by rw [hZn]; exact skp A (n + 1) n' (by omega) m0' (by omega) hn') _
                    · refine w_ist6 (pc' := 271) dX1_search_269 rfl rfl ?_
                      refine w_goto (tgt := 204) dX1_search_271 rfl ?_
                      -- at 204: .iload 6
                      try simp (decide := true) only [au_1, nu_2, au_lt, nu_lt, aw_e, nw_e, au_s, au_n, nu_s, nu_n, au_au, nu_nu, au_nu]
                      exact fin (by rw [hZn]; exact last (n + 1) (by omega) (by omega) hn') _
          refine w_aload_n (pc' := 183) dX1_search_182 rfl rfl ?_
          refine w_aload_n (pc' := 184) dX1_search_183 rfl rfl ?_
          refine w_mga 47 (pc' := 187) dX1_search_184 rfl fX1_112_1 rfl ?_
          refine w_iload (pc' := 189) dX1_search_187 rfl rfl ?_
          refine w_mild (pc' := 190) dX1_search_189 rfl rfl (by first | omega | (simp (decide := true) only [au_1, nu_2, au_lt, nu_lt, aw_e, nw_e, au_s, au_n, nu_s, nu_n, au_au, nu_nu, au_nu]; omega)) (by first | omega | (simp (decide := true) only [au_1, nu_2, au_lt, nu_lt, aw_e, nw_e, au_s, au_n, nu_s, nu_n, au_au, nu_nu, au_nu]; omega)) ?_
          -- at 190: .aload_n 0
          try simp (decide := true) only [au_1, nu_2, au_lt, nu_lt, aw_e, nw_e, au_s, au_n, nu_s, nu_n, au_au, nu_nu, au_nu]
          rw [hdp]
          refine w_aload_n (pc' := 191) dX1_search_190 rfl rfl ?_
          refine w_mga 48 (pc' := 194) dX1_search_191 rfl fX1_115_1 rfl ?_
          refine w_iload (pc' := 196) dX1_search_194 rfl rfl ?_
          refine w_mild (pc' := 197) dX1_search_196 rfl rfl (by first | omega | (simp (decide := true) only [au_1, nu_2, au_lt, nu_lt, aw_e, nw_e, au_s, au_n, nu_s, nu_n, au_au, nu_nu, au_nu]; omega)) (by first | omega | (simp (decide := true) only [au_1, nu_2, au_lt, nu_lt, aw_e, nw_e, au_s, au_n, nu_s, nu_n, au_au, nu_nu, au_nu]; omega)) ?_
          -- at 197: .iconst 1
          try simp (decide := true) only [au_1, nu_2, au_lt, nu_lt, aw_e, nw_e, au_s, au_n, nu_s, nu_n, au_au, nu_nu, au_nu]
          rw [hdt]
          refine w_iconst (pc' := 198) dX1_search_197 rfl (by decide) ?_
          refine w_iadd (pc' := 199) dX1_search_198 rfl ⟨by first | omega | (simp (decide := true) only [au_1, nu_2, au_lt, nu_lt, aw_e, nw_e, au_s, au_n, nu_s, nu_n, au_au, nu_nu, au_nu]; omega), by first | omega | (simp (decide := true) only [au_1, nu_2, au_lt, nu_lt, aw_e, nw_e, au_s, au_n, nu_s, nu_n, au_au, nu_nu, au_nu]; omega)⟩ ?_
          -- at 199: .invokevirtual 304
          try simp (decide := true) only [au_1, nu_2, au_lt, nu_lt, aw_e, nw_e, au_s, au_n, nu_s, nu_n, au_au, nu_nu, au_nu]
          rw [show n0 - 1 + 1 = n0 by omega]
          refine w_callV2 (pc' := 202) (mc := 0) (ms := 0) dX1_search_199 rfl tX1_nextFitting q1545 rfl rfl qs74 q1543 ov_o rfl (Nat.le_of_ble_eq_true rfl) (Nat.le_of_ble_eq_true rfl) ?_
          refine c_X1_nextFitting (show kok _ from hK) (show fo1 _ from hF) hf (show bok _ (σ.1 42) b from hb) ⟨p0, p1⟩ (show 0 ≤ n0 ∧ n0 ≤ 8 * σ.1 5 by omega) (fun n' m0' m1' hc' hn' => w_p1 ?_) (fun hn' => w_p1 ?_)
          · have m1' : n' < 8 * σ.1 5 := m1'
            refine w_ist6 (pc' := 204) dX1_search_202 rfl rfl ?_
            -- at 204: .iload 6
            try simp (decide := true) only [au_1, nu_2, au_lt, nu_lt, aw_e, nw_e, au_s, au_n, nu_s, nu_n, au_au, nu_nu, au_nu]
            exact cand _ n' rfl m0' m1' hc' (by rw [hZA]; exact skp A n0 n' n00 m0' (by omega) hn') _
          · refine w_ist6 (pc' := 204) dX1_search_202 rfl rfl ?_
            -- at 204: .iload 6
            try simp (decide := true) only [au_1, nu_2, au_lt, nu_lt, aw_e, nw_e, au_s, au_n, nu_s, nu_n, au_au, nu_nu, au_nu]
            exact fin (by rw [hZA]; exact last n0 n00 n01 hn') _
      refine w_ist5 (pc' := 84) dX1_search_82 rfl rfl ?_
      refine w_iload (pc' := 86) dX1_search_84 rfl rfl ?_
      -- at 86: .ifCond .ge 31
      try simp (decide := true) only [au_1, nu_2, au_lt, nu_lt, aw_e, nw_e, au_s, au_n, nu_s, nu_n, au_au, nu_nu, au_nu]
      refine w_if_ge (pc' := 89) (tgt := 117) dX1_search_86 rfl rfl (fun h_ => ?_) (fun h_ => False.elim (by first | omega | (simp (decide := true) only [au_1, nu_2, au_lt, nu_lt, aw_e, nw_e, au_s, au_n, nu_s, nu_n, au_au, nu_nu, au_nu] at h_; omega)))
      refine w_aload_n (pc' := 118) dX1_search_117 rfl rfl ?_
      refine w_mga 47 (pc' := 121) dX1_search_118 rfl fX1_112_1 rfl ?_
      refine w_aload_n (pc' := 122) dX1_search_121 rfl rfl ?_
      refine w_mgi 49 (pc' := 125) dX1_search_122 rfl fX1_329_1 rfl ?_
      refine w_iload (pc' := 127) dX1_search_125 rfl rfl ?_
      refine w_aui (pc' := 128) dX1_search_127 rfl rfl (by first | omega | (simp (decide := true) only [au_1, nu_2, au_lt, nu_lt, aw_e, nw_e, au_s, au_n, nu_s, nu_n, au_au, nu_nu, au_nu]; omega)) (by first | omega | (simp (decide := true) only [au_1, nu_2, au_lt, nu_lt, aw_e, nw_e, au_s, au_n, nu_s, nu_n, au_au, nu_nu, au_nu]; omega)) ?_
      try simp (decide := true) only [au_1, nu_2, au_lt, nu_lt, aw_e, nw_e, au_s, au_n, nu_s, nu_n, au_au, nu_nu, au_nu]
      refine w_aload_n (pc' := 129) dX1_search_128 rfl rfl ?_
      refine w_mga 48 (pc' := 132) dX1_search_129 rfl fX1_115_1 rfl ?_
      refine w_aload_n (pc' := 133) dX1_search_132 rfl rfl ?_
      refine w_mgi 49 (pc' := 136) dX1_search_133 rfl fX1_329_1 rfl ?_
      refine w_iconst (pc' := 137) dX1_search_136 rfl (by decide) ?_
      refine w_aui (pc' := 138) dX1_search_137 rfl rfl (by first | omega | (simp (decide := true) only [au_1, nu_2, au_lt, nu_lt, aw_e, nw_e, au_s, au_n, nu_s, nu_n, au_au, nu_nu, au_nu]; omega)) (by first | omega | (simp (decide := true) only [au_1, nu_2, au_lt, nu_lt, aw_e, nw_e, au_s, au_n, nu_s, nu_n, au_au, nu_nu, au_nu]; omega)) ?_
      try simp (decide := true) only [au_1, nu_2, au_lt, nu_lt, aw_e, nw_e, au_s, au_n, nu_s, nu_n, au_au, nu_nu, au_nu]
      refine w_aload_n (pc' := 139) dX1_search_138 rfl rfl ?_
      refine w_dup (pc' := 140) dX1_search_139 rfl rfl ?_
      refine w_mgi 49 (pc' := 143) dX1_search_140 rfl fX1_329_1 rfl ?_
      refine w_iconst (pc' := 144) dX1_search_143 rfl (by decide) ?_
      refine w_iadd (pc' := 145) dX1_search_144 rfl ⟨by first | omega | (simp (decide := true) only [au_1, nu_2, au_lt, nu_lt, aw_e, nw_e, au_s, au_n, nu_s, nu_n, au_au, nu_nu, au_nu]; omega), by first | omega | (simp (decide := true) only [au_1, nu_2, au_lt, nu_lt, aw_e, nw_e, au_s, au_n, nu_s, nu_n, au_au, nu_nu, au_nu]; omega)⟩ ?_
      refine w_nup 49 (pc' := 148) dX1_search_145 rfl pX1_329_1 rfl trivial ?_
      try simp (decide := true) only [au_1, nu_2, au_lt, nu_lt, aw_e, nw_e, au_s, au_n, nu_s, nu_n, au_au, nu_nu, au_nu]
      -- at 148: .aload_n 0
      try simp (decide := true) only [au_1, nu_2, au_lt, nu_lt, aw_e, nw_e, au_s, au_n, nu_s, nu_n, au_au, nu_nu, au_nu]
      refine w_aload_n (pc' := 149) dX1_search_148 rfl rfl ?_
      refine w_mgi 49 (pc' := 152) dX1_search_149 rfl fX1_329_1 rfl ?_
      refine w_iconst (pc' := 153) dX1_search_152 rfl (by decide) ?_
      refine w_isub (pc' := 154) dX1_search_153 rfl ⟨by first | omega | (simp (decide := true) only [au_1, nu_2, au_lt, nu_lt, aw_e, nw_e, au_s, au_n, nu_s, nu_n, au_au, nu_nu, au_nu]; omega), by first | omega | (simp (decide := true) only [au_1, nu_2, au_lt, nu_lt, aw_e, nw_e, au_s, au_n, nu_s, nu_n, au_au, nu_nu, au_nu]; omega)⟩ ?_
      -- at 154: .istore 5
      try simp (decide := true) only [au_1, nu_2, au_lt, nu_lt, aw_e, nw_e, au_s, au_n, nu_s, nu_n, au_au, nu_nu, au_nu]
      rw [show D + 1 - 1 = D by omega]
      refine w_ist5 (pc' := 156) dX1_search_154 rfl rfl ?_
      refine w_aload_n (pc' := 157) dX1_search_156 rfl rfl ?_
      refine w_mga 44 (pc' := 160) dX1_search_157 rfl fX1_103_1 rfl ?_
      refine w_aload_n (pc' := 161) dX1_search_160 rfl rfl ?_
      refine w_mga 47 (pc' := 164) dX1_search_161 rfl fX1_112_1 rfl ?_
      refine w_iload (pc' := 166) dX1_search_164 rfl rfl ?_
      refine w_mild (pc' := 167) dX1_search_166 rfl rfl (by first | omega | (simp (decide := true) only [au_1, nu_2, au_lt, nu_lt, aw_e, nw_e, au_s, au_n, nu_s, nu_n, au_au, nu_nu, au_nu]; omega)) (by first | omega | (simp (decide := true) only [au_1, nu_2, au_lt, nu_lt, aw_e, nw_e, au_s, au_n, nu_s, nu_n, au_au, nu_nu, au_nu]; omega)) ?_
      -- at 167: .iaload
      try simp (decide := true) only [au_1, nu_2, au_lt, nu_lt, aw_e, nw_e, au_s, au_n, nu_s, nu_n, au_au, nu_nu, au_nu]
      rw [iset_s]
      refine w_mild (pc' := 168) dX1_search_167 rfl rfl (by first | omega | (simp (decide := true) only [au_1, nu_2, au_lt, nu_lt, aw_e, nw_e, au_s, au_n, nu_s, nu_n, au_au, nu_nu, au_nu]; omega)) (by first | omega | (simp (decide := true) only [au_1, nu_2, au_lt, nu_lt, aw_e, nw_e, au_s, au_n, nu_s, nu_n, au_au, nu_nu, au_nu]; omega)) ?_
      -- at 168: .ifCond .eq 14
      try simp (decide := true) only [au_1, nu_2, au_lt, nu_lt, aw_e, nw_e, au_s, au_n, nu_s, nu_n, au_au, nu_nu, au_nu]
      rw [hb0]
      refine w_if_eq (pc' := 171) (tgt := 182) dX1_search_168 rfl rfl (fun h_ => ?_) (fun h_ => False.elim (by first | omega | (simp (decide := true) only [au_1, nu_2, au_lt, nu_lt, aw_e, nw_e, au_s, au_n, nu_s, nu_n, au_au, nu_nu, au_nu] at h_; omega)))
      rw [← z1]
      exact scan _ 0 _ _ A0 _ _ rfl (by omega) (by omega) iset_s (by rw [iset_s]; omega) (fun t t0 t1 => ⟨iset_n (by omega), iset_n (by omega)⟩) hA0' hE0 (by rw [hZ, Int.sub_zero])
    · have hn : ∀ k, opB σ (σ.1 42) k → b k ≠ 0 := hn
      have := ne_0 hn
      omega
end
