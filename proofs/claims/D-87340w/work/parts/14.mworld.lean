set_option maxRecDepth 10000
/-! the reference's world: one object, its arrays; its state as two functions: the numbers by field, the arrays by field -/
abbrev MS : Type := (Nat → Int) × (Nat → Int → Int)
abbrev mR : Rl := (0, 0, 0)
abbrev mr (k : Nat) : Rl := (1, (k : Int), 0)
def mT (k : Nat) : Option (Nat × Nat) := match k with
  | 0 => some (0, 40)
  | 1 => some (0, 40)
  | 2 => some (0, 40)
  | 3 => some (3, 40)
  | 4 => some (4, 40)
  | 6 => some (0, 6000)
  | 7 => some (0, 6000)
  | 8 => some (0, 360000)
  | 10 => some (0, 960)
  | 11 => some (0, 16)
  | 13 => some (0, 40)
  | 14 => some (0, 40)
  | 15 => some (0, 2400)
  | 20 => some (0, 400)
  | 21 => some (0, 400)
  | 22 => some (3, 400)
  | 23 => some (3, 400)
  | 26 => some (0, 8)
  | 27 => some (0, 8)
  | 28 => some (0, 5120)
  | 30 => some (0, 7200)
  | 31 => some (0, 120)
  | 32 => some (0, 120)
  | 33 => some (4, 40)
  | 34 => some (4, 40)
  | 35 => some (0, 6)
  | 36 => some (0, 6)
  | 37 => some (0, 384)
  | 38 => some (0, 384)
  | 39 => some (0, 240)
  | 44 => some (0, 64)
  | 45 => some (0, 40)
  | 46 => some (0, 64)
  | 47 => some (0, 65)
  | 48 => some (0, 65)
  | _ => none
def mfv (σ : MS) (k : Nat) : XV := match mT k with
  | some _ => xR (mr k)
  | none => xI (σ.1 k)
def mfl (σ : MS) : List XV := (List.range 55).map (mfv σ)
def ov (σ : MS) (G0 : GH) : GH := fun r => if r = mR then some (xob 1 (mfl σ)) else if r.1 = 1 ∧ r.2.2 = 0 ∧ 0 ≤ r.2.1 then (match mT r.2.1.toNat with | some (t, n) => some (xar t n (σ.2 r.2.1.toNat)) | none => G0 r) else G0 r
def nset (f : Nat → Int) (k : Nat) (v : Int) : Nat → Int := fun j => if j = k then v else f j
def aset (f : Nat → Int → Int) (k : Nat) (i v : Int) : Nat → Int → Int := fun j => if j = k then iset (f k) i v else f j
theorem ov_o {σ : MS} {G0 : GH} : ov σ G0 mR = some (xob 1 (mfl σ)) := if_pos rfl
theorem ov_a {σ : MS} {G0 : GH} {k t n : Nat} (h : mT k = some (t, n)) : ov σ G0 (mr k) = some (xar t n (σ.2 k)) := by
  unfold ov
  rw [if_neg (by intro q; cases q), if_pos ⟨rfl, rfl, Int.natCast_nonneg k⟩]
  show (match mT ((k : Int)).toNat with | some (t, n) => some (xar t n (σ.2 ((k : Int)).toNat)) | none => G0 (mr k)) = _
  rw [Int.toNat_natCast, h]
theorem ov_n {σ : MS} {G0 : GH} {r : Rl} (h0 : r.1 ≠ 0) (h1 : r.1 ≠ 1) : ov σ G0 r = G0 r := by
  unfold ov
  rw [if_neg (fun q => h0 (by rw [q])), if_neg (fun q => h1 q.1)]
theorem mfl_at {σ : MS} {k : Nat} (h : k < 55) : (mfl σ)[k]? = some (mfv σ k) := by
  unfold mfl
  rw [List.getElem?_map, List.getElem?_range h]
  rfl
theorem mfv_i {σ : MS} {k : Nat} (h : mT k = none) : mfv σ k = xI (σ.1 k) := by unfold mfv; rw [h]
theorem mfv_a {σ : MS} {k t n : Nat} (h : mT k = some (t, n)) : mfv σ k = xR (mr k) := by unfold mfv; rw [h]
theorem ov_put {σ : MS} {G0 : GH} {k : Nat} {v : Int} (h : mT k = none) (hk : k < 55) : gset (ov σ G0) mR (xob 1 ((mfl σ).set k (xI v))) = ov (nset σ.1 k v, σ.2) G0 := by
  funext r
  unfold gset
  by_cases hr : r = mR
  · rw [if_pos hr, hr, ov_o]
    congr 3
    apply List.ext_getElem?
    intro j
    by_cases hj : j = k
    · subst hj
      rw [List.getElem?_set_self (by unfold mfl; rw [List.length_map, List.length_range]; exact hk), mfl_at hk, mfv_i h]
      simp [nset]
    · rw [List.getElem?_set_ne (Ne.symm hj)]
      by_cases hj2 : j < 55
      · rw [mfl_at hj2, mfl_at hj2]
        cases hT : mT j with
        | none => rw [mfv_i hT, mfv_i hT]; simp [nset, hj]
        | some q => rw [mfv_a (t := q.1) (n := q.2) hT, mfv_a (t := q.1) (n := q.2) hT]
      · have l1 : ∀ s : MS, (mfl s).length = 55 := fun s => by unfold mfl; rw [List.length_map, List.length_range]
        rw [List.getElem?_eq_none (by rw [l1]; omega), List.getElem?_eq_none (by rw [l1]; omega)]
  · rw [if_neg hr]
    unfold ov
    rw [if_neg hr, if_neg hr]
theorem ov_ast {σ : MS} {G0 : GH} {k t n : Nat} {i v : Int} (h : mT k = some (t, n)) : gset (ov σ G0) (mr k) (xar t n (iset (σ.2 k) i v)) = ov (σ.1, aset σ.2 k i v) G0 := by
  funext r
  unfold gset
  by_cases hr : r = mr k
  · rw [if_pos hr, hr, ov_a h]
    congr 5
    simp [aset]
  · rw [if_neg hr]
    unfold ov
    split
    · congr 2
    · split
      · rename_i h1 h2
        have : r.2.1.toNat ≠ k := by
          intro q
          apply hr
          obtain ⟨a, b, c⟩ := r
          obtain ⟨h21, h22, h23⟩ := h2
          simp only at h21 h22 h23 q
          subst h21; subst h22
          have : b = (k : Int) := by omega
          rw [this]
        cases hT : mT r.2.1.toNat with
        | none => rfl
        | some q => simp [aset, this]
      · rfl
section MW
variable {M : tv_M} {d : Nat} {K : Option XV → GH → Prop} {pc pc' : Nat} {L : List (Option XV)} {st : List XV} {G0 : GH} {bc bs : Nat} {σ : MS}
theorem w_mgi {idx : Nat} (k : Nat) (hd : decode M.1 pc = .ok (.getfield idx, 3)) (hp : pc + 3 = pc') (hf : tv_fl M.2.2.1 idx 1 k) (hk : mT k = none) (kk : tvW M d K pc' L (xI (σ.1 k) :: st) (ov σ G0) bc bs) : tvW M d K pc L (xR mR :: st) (ov σ G0) bc bs := by
  have hN : k < 55 := by obtain ⟨C, T, N, ref, hc, hk, -⟩ := hf; cases hc; exact hk
  exact w_get k hd hp hf ov_o (by rw [mfl_at hN, mfv_i hk]) kk
theorem w_mga {idx t n : Nat} (k : Nat) (hd : decode M.1 pc = .ok (.getfield idx, 3)) (hp : pc + 3 = pc') (hf : tv_fl M.2.2.1 idx 1 k) (hk : mT k = some (t, n)) (kk : tvW M d K pc' L (xR (mr k) :: st) (ov σ G0) bc bs) : tvW M d K pc L (xR mR :: st) (ov σ G0) bc bs := by
  have hN : k < 55 := by obtain ⟨C, T, N, ref, hc, hk, -⟩ := hf; cases hc; exact hk
  exact w_get k hd hp hf ov_o (by rw [mfl_at hN, mfv_a hk]) kk
theorem w_mpi {idx : Nat} {v : Int} {ty : FieldType} (k : Nat) (hd : decode M.1 pc = .ok (.putfield idx, 3)) (hp : pc + 3 = pc') (hf : tv_fp M.2.2.1 idx 1 k ty false) (hk : mT k = none) (hv : tv_ft ty (xI v)) (kk : tvW M d K pc' L st (ov (nset σ.1 k v, σ.2) G0) bc bs) : tvW M d K pc L (xI v :: xR mR :: st) (ov σ G0) bc bs := by
  have hN : k < 55 := by obtain ⟨C, T, N, ref, hc, hk, -⟩ := hf; cases hc; exact hk
  refine w_put k hd hp hf (fun h => nomatch h) ov_o (by unfold mfl; rw [List.length_map, List.length_range]; exact hN) hv ?_
  rw [ov_put hk hN]
  exact kk
theorem w_mild {k n : Nat} {i : Int} (hd : decode M.1 pc = .ok (.iaload, 1)) (hp : pc + 1 = pc') (hk : mT k = some (0, n)) (h0 : 0 ≤ i) (h1 : i < n) (kk : tvW M d K pc' L (xI (σ.2 k i) :: st) (ov σ G0) bc bs) : tvW M d K pc L (xI i :: xR (mr k) :: st) (ov σ G0) bc bs := w_iald hd hp (ov_a hk) h0 h1 kk
theorem w_mzld {k n : Nat} {i : Int} (hd : decode M.1 pc = .ok (.baload, 1)) (hp : pc + 1 = pc') (hk : mT k = some (3, n)) (h0 : 0 ≤ i) (h1 : i < n) (kk : tvW M d K pc' L (xI (σ.2 k i) :: st) (ov σ G0) bc bs) : tvW M d K pc L (xI i :: xR (mr k) :: st) (ov σ G0) bc bs := w_zald hd hp (ov_a hk) h0 h1 kk
theorem w_mlld {k n : Nat} {i : Int} (hd : decode M.1 pc = .ok (.laload, 1)) (hp : pc + 1 = pc') (hk : mT k = some (4, n)) (h0 : 0 ≤ i) (h1 : i < n) (kk : tvW M d K pc' L (xL (σ.2 k i) :: st) (ov σ G0) bc bs) : tvW M d K pc L (xI i :: xR (mr k) :: st) (ov σ G0) bc bs := w_lald hd hp (ov_a hk) h0 h1 kk
theorem w_mist {k n : Nat} {i x : Int} (hd : decode M.1 pc = .ok (.iastore, 1)) (hp : pc + 1 = pc') (hk : mT k = some (0, n)) (h0 : 0 ≤ i) (h1 : i < n) (kk : tvW M d K pc' L st (ov (σ.1, aset σ.2 k i x) G0) bc bs) : tvW M d K pc L (xI x :: xI i :: xR (mr k) :: st) (ov σ G0) bc bs := w_iast hd hp (ov_a hk) h0 h1 (by rw [ov_ast hk]; exact kk)
theorem w_mzst {k n : Nat} {i x : Int} (hd : decode M.1 pc = .ok (.bastore, 1)) (hp : pc + 1 = pc') (hk : mT k = some (3, n)) (h0 : 0 ≤ i) (h1 : i < n) (hx : x = 0 ∨ x = 1) (kk : tvW M d K pc' L st (ov (σ.1, aset σ.2 k i x) G0) bc bs) : tvW M d K pc L (xI x :: xI i :: xR (mr k) :: st) (ov σ G0) bc bs := w_zast hd hp (ov_a hk) h0 h1 hx (by rw [ov_ast hk]; exact kk)
theorem w_mlst {k n : Nat} {i x : Int} (hd : decode M.1 pc = .ok (.lastore, 1)) (hp : pc + 1 = pc') (hk : mT k = some (4, n)) (h0 : 0 ≤ i) (h1 : i < n) (kk : tvW M d K pc' L st (ov (σ.1, aset σ.2 k i x) G0) bc bs) : tvW M d K pc L (xL x :: xI i :: xR (mr k) :: st) (ov σ G0) bc bs := w_last hd hp (ov_a hk) h0 h1 (by rw [ov_ast hk]; exact kk)
/-- what is known of the reference's numbers at any point -/
theorem w_mok (k : (∀ k, k < 55 → mT k = none → rg (σ.1 k)) → (∀ k t n, mT k = some (t, n) → ∀ i, tv_rt t (σ.2 k i)) → tvW M d K pc L st (ov σ G0) bc bs) : tvW M d K pc L st (ov σ G0) bc bs := by
  refine w_okv (fun _ _ h => k ?_ ?_)
  · intro j hj hT
    have := h mR _ ov_o (mfv σ j) (List.mem_of_getElem? (mfl_at hj))
    rw [mfv_i hT] at this
    exact this
  · intro j t n hT i
    exact (h (mr j) _ (ov_a hT)).2 i
end MW
