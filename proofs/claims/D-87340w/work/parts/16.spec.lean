set_option maxRecDepth 10000
/-! the specification: the reference's state as functions; what each call does to it -/
def rfill (f : Int → Int) (a n : Int) (v : Int → Int) : Int → Int := fun i => if a ≤ i ∧ i < a + n then v i else f i
theorem rfill_0 (f : Int → Int) (a : Int) (v : Int → Int) : rfill f a 0 v = f := by
  funext i; unfold rfill; rw [if_neg (by omega)]
theorem rfill_s {f : Int → Int} {a n : Int} {v : Int → Int} (hn : 0 ≤ n) : iset (rfill f a n v) (a + n) (v (a + n)) = rfill f a (n + 1) v := by
  funext i; unfold iset rfill
  by_cases h : i = a + n
  · rw [if_pos h, if_pos (by omega), h]
  · rw [if_neg h]
    by_cases h2 : a ≤ i ∧ i < a + n
    · rw [if_pos h2, if_pos (by omega)]
    · rw [if_neg h2, if_neg (by omega)]
theorem rfill_s' {f : Int → Int} {a n b w : Int} {v : Int → Int} (hn : 0 ≤ n) (hb : b = a + n) (hw : w = v (a + n)) : iset (rfill f a n v) b w = rfill f a (n + 1) v := by rw [hb, hw]; exact rfill_s hn
theorem rfill_p {f : Int → Int} {a n b w : Int} {v : Int → Int} (hn : 0 ≤ n) (hb : b = a - 1) (hw : w = v (a - 1)) : iset (rfill f a n v) b w = rfill f (a - 1) (n + 1) v := by
  rw [hb, hw]
  funext i; unfold iset rfill
  by_cases h : i = a - 1
  · rw [if_pos h, if_pos (by omega), h]
  · rw [if_neg h]
    by_cases h2 : a ≤ i ∧ i < a + n
    · rw [if_pos h2, if_pos (by omega)]
    · rw [if_neg h2, if_neg (by omega)]
theorem rfill_in {f : Int → Int} {a n i : Int} {v : Int → Int} (h : a ≤ i) (h2 : i < a + n) : rfill f a n v i = v i := if_pos ⟨h, h2⟩
theorem rfill_out {f : Int → Int} {a n i : Int} {v : Int → Int} (h : i < a ∨ a + n ≤ i) : rfill f a n v i = f i := if_neg (by omega)
theorem ms_eq {s t : MS} (h1 : ∀ k, s.1 k = t.1 k) (h2 : ∀ k, s.2 k = t.2 k) : s = t := Prod.ext (funext h1) (funext h2)
theorem aset_n {f : Nat → Int → Int} {k j : Nat} {i v : Int} (h : j ≠ k) : aset f k i v j = f j := if_neg h
theorem aset_s {f : Nat → Int → Int} {k : Nat} {i v : Int} : aset f k i v k = iset (f k) i v := if_pos rfl
theorem nset_n {f : Nat → Int} {k j : Nat} {v : Int} (h : j ≠ k) : nset f k v j = f j := if_neg h
theorem nset_s {f : Nat → Int} {k : Nat} {v : Int} : nset f k v k = v := if_pos rfl
theorem iset_s {f : Int → Int} {i v : Int} : iset f i v i = v := if_pos rfl
theorem iset_n {f : Int → Int} {i j v : Int} (h : j ≠ i) : iset f i v j = f j := if_neg h
/-! cells -/
def kOf (c : Int) : Int := (c % 65536 - 1) / 8
def mOf (c : Int) : Int := (c % 65536 - 1) % 8
def sOf (c : Int) : Int := c / 65536
def cel (k m s : Int) : Int := s * 65536 + (8 * k + m + 1)
/-- a cell: empty, or a kind below K -/
def isC (K c : Int) : Prop := c = 0 ∨ 1 ≤ c % 65536 ∧ c % 65536 ≤ 8 * K
def rw_ (σ : MS) (p i : Int) : Int := σ.2 10 (60 * p + i)
def hs_ (σ : MS) (p i j : Int) : Prop := 0 ≤ i ∧ i < σ.2 11 p ∧ σ.2 7 (rw_ σ p i) ≤ j ∧ j < σ.2 7 (rw_ σ p i) + σ.2 6 (rw_ σ p i)
def ca_ (σ : MS) (p i j : Int) : Int := σ.2 8 (60 * rw_ σ p i + j - σ.2 7 (rw_ σ p i))
def mvd (σ : MS) (c m : Int) : Int := if c = 0 then 0 else cel (kOf c) (lie (σ.2 3 (kOf c)) (σ.2 1 (kOf c)) (thn (mOf c) m)) (sOf c)
def ftt (σ : MS) (c d e : Int) : Prop := c = 0 ∨ d = 0 ∨ col (σ.2 0 (kOf c)) (mOf c) e = col (σ.2 0 (kOf d)) (mOf d) ((e + 2) % 4)
/-! what always holds of the state -/
def kok (σ : MS) : Prop := (0 ≤ σ.1 5 ∧ σ.1 5 ≤ 40) ∧ ∀ k, 0 ≤ k → k < σ.1 5 → (0 ≤ σ.2 0 k ∧ σ.2 0 k ≤ 65535) ∧ (σ.2 1 k = 1 ∨ σ.2 1 k = 2 ∨ σ.2 1 k = 4) ∧ (0 ≤ σ.2 2 k ∧ σ.2 2 k ≤ 1000) ∧ 0 < σ.2 4 k
def rok (σ : MS) : Prop := (0 ≤ σ.1 9 ∧ σ.1 9 ≤ 6000) ∧ ∀ r, 0 ≤ r → r < σ.1 9 → (0 ≤ σ.2 6 r ∧ σ.2 6 r ≤ 60) ∧ (-30 ≤ σ.2 7 r ∧ σ.2 7 r ≤ 30) ∧ ∀ k, 0 ≤ k → k < σ.2 6 r → isC (σ.1 5) (σ.2 8 (60 * r + k))
def pok (σ : MS) : Prop := (0 ≤ σ.1 12 ∧ σ.1 12 ≤ 16) ∧ ∀ p, 0 ≤ p → p < σ.1 12 → (0 ≤ σ.2 11 p ∧ σ.2 11 p ≤ 60) ∧ ∀ i, 0 ≤ i → i < σ.2 11 p → 0 ≤ rw_ σ p i ∧ rw_ σ p i < σ.1 9
def us_ (σ : MS) (j : Int) : Int := (σ.1 17 - 1 - j) % 40
def uok (σ : MS) : Prop := (0 ≤ σ.1 16 ∧ σ.1 16 ≤ 40) ∧ (0 ≤ σ.1 17 ∧ σ.1 17 < 40) ∧ ∀ j, 0 ≤ j → j < σ.1 16 → (0 ≤ σ.2 13 (us_ σ j) ∧ σ.2 13 (us_ σ j) < σ.1 12) ∧ (0 ≤ σ.2 14 (us_ σ j) ∧ σ.2 14 (us_ σ j) ≤ 60) ∧ ∀ i, 0 ≤ i → i < σ.2 14 (us_ σ j) → 0 ≤ σ.2 15 (60 * us_ σ j + i) ∧ σ.2 15 (60 * us_ σ j + i) < σ.1 9
/-! changes of the state: one array, one number -/
def au (σ : MS) (k : Nat) (f : Int → Int) : MS := (σ.1, fun j => if j = k then f else σ.2 j)
def nu (σ : MS) (k : Nat) (v : Int) : MS := (fun j => if j = k then v else σ.1 j, σ.2)
def aw (σ : MS) (k : Nat) (f : Int → Int) : MS := au σ k f
def nw (σ : MS) (k : Nat) (v : Int) : MS := nu σ k v
section
variable {σ : MS} {k j : Nat} {f g : Int → Int} {v w : Int}
theorem au_1 : (au σ k f).1 = σ.1 := rfl
theorem nu_2 : (nu σ k v).2 = σ.2 := rfl
theorem au_s : (au σ k f).2 k = f := if_pos rfl
theorem au_n (h : j ≠ k) : (au σ k f).2 j = σ.2 j := if_neg h
theorem nu_s : (nu σ k v).1 k = v := if_pos rfl
theorem nu_n (h : j ≠ k) : (nu σ k v).1 j = σ.1 j := if_neg h
theorem au_nu : au (nu σ j v) k f = nu (au σ k f) j v := rfl
theorem au_au : au (au σ k f) k g = au σ k g := Prod.ext rfl (funext fun i => by show (if i = k then g else if i = k then f else σ.2 i) = if i = k then g else σ.2 i; split <;> rfl)
theorem nu_nu : nu (nu σ k v) k w = nu σ k w := Prod.ext (funext fun i => by show (if i = k then w else if i = k then v else σ.1 i) = if i = k then w else σ.1 i; split <;> rfl) rfl
theorem au_id : au σ k (σ.2 k) = σ := Prod.ext rfl (funext fun i => by show (if i = k then σ.2 k else σ.2 i) = σ.2 i; split <;> simp_all)
theorem nu_id : nu σ k (σ.1 k) = σ := Prod.ext (funext fun i => by show (if i = k then σ.1 k else σ.1 i) = σ.1 i; split <;> simp_all) rfl
theorem au_cm (h : j ≠ k) : au (au σ j f) k g = au (au σ k g) j f := Prod.ext rfl (funext fun i => by
  show (if i = k then g else if i = j then f else σ.2 i) = if i = j then f else if i = k then g else σ.2 i
  split <;> split <;> simp_all)
theorem nu_cm (h : j ≠ k) : nu (nu σ j v) k w = nu (nu σ k w) j v := Prod.ext (funext fun i => by
  show (if i = k then w else if i = j then v else σ.1 i) = if i = j then v else if i = k then w else σ.1 i
  split <;> split <;> simp_all) rfl
theorem au_lt (h : k < j) : au (au σ j f) k g = au (aw σ k g) j f := au_cm (by omega)
theorem nu_lt (h : k < j) : nu (nu σ j v) k w = nu (nw σ k w) j v := nu_cm (by omega)
theorem aw_e : aw σ k f = au σ k f := rfl
theorem nw_e : nw σ k v = nu σ k v := rfl
end
/-! loops -/
theorem up {T : Int → Prop} {a : Int} (b : Int) (hab : a ≤ b) (hb : T b) (hs : ∀ i, a ≤ i → i < b → T (i + 1) → T i) : T a := by
  have h : ∀ (n : Nat) (i : Int), a ≤ i → i + n = b → T i := by
    intro n
    induction n with
    | zero => intro i _ h; have : i = b := by omega
              rw [this]; exact hb
    | succ n ih => intro i h1 h2; exact hs i h1 (by omega) (ih (i + 1) (by omega) (by omega))
  exact h (b - a).toNat a (by omega) (by omega)
theorem dn {T : Int → Prop} {b : Int} (a : Int) (hab : a ≤ b) (ha : T a) (hs : ∀ i, a < i → i ≤ b → T (i - 1) → T i) : T b := by
  have h : ∀ (n : Nat) (i : Int), i ≤ b → a + n = i → T i := by
    intro n
    induction n with
    | zero => intro i _ h; have : i = a := by omega
              rw [this]; exact ha
    | succ n ih => intro i h1 h2; exact hs i (by omega) h1 (ih (i - 1) (by omega) (by omega))
  exact h (b - a).toNat b (by omega) (by omega)
/-! a truth as a number; sums; the first place -/
noncomputable def b1 (p : Prop) : Int := @ite Int p (Classical.propDecidable p) 1 0
theorem b1_t {p : Prop} (h : p) : b1 p = 1 := @if_pos p (Classical.propDecidable p) h _ _ _
theorem b1_f {p : Prop} (h : ¬ p) : b1 p = 0 := @if_neg p (Classical.propDecidable p) h _ _ _
theorem b1_c {p q : Prop} (h : p ↔ q) : b1 p = b1 q := by rw [propext h]
theorem b1_r (p : Prop) : 0 ≤ b1 p ∧ b1 p ≤ 1 := by
  by_cases h : p
  · rw [b1_t h]; omega
  · rw [b1_f h]; omega
theorem b1_01 (p : Prop) : b1 p = 0 ∨ b1 p = 1 := by have := b1_r p; omega
theorem b1_e {p : Prop} {z : Int} (h1 : p → z = 1) (h0 : ¬ p → z = 0) : z = b1 p := by
  by_cases h : p
  · rw [b1_t h, h1 h]
  · rw [b1_f h, h0 h]
theorem b1_1 {p : Prop} : b1 p = 1 ↔ p := by
  by_cases h : p
  · exact ⟨fun _ => h, fun _ => b1_t h⟩
  · exact ⟨fun q => absurd (b1_f h ▸ q : (0 : Int) = 1) (by decide), fun q => absurd q h⟩
def smN (f : Int → Int) : Nat → Int
  | 0 => 0
  | n + 1 => smN f n + f n
def sm (f : Int → Int) (n : Int) : Int := smN f n.toNat
theorem sm_0 {f : Int → Int} : sm f 0 = 0 := rfl
theorem sm_s {f : Int → Int} {n : Int} (h : 0 ≤ n) : sm f (n + 1) = sm f n + f n := by
  obtain ⟨m, rfl⟩ := Int.eq_ofNat_of_zero_le h
  show smN f ((m : Int) + 1).toNat = smN f (m : Int).toNat + f m
  rw [show ((m : Int) + 1).toNat = m + 1 by omega, Int.toNat_natCast]
  rfl
theorem sm_c {f g : Int → Int} {n : Int} (h : ∀ i, 0 ≤ i → i < n → f i = g i) : sm f n = sm g n := by
  unfold sm
  have : ∀ m : Nat, (m : Int) ≤ n → smN f m = smN g m := by
    intro m
    induction m with
    | zero => intro _; rfl
    | succ m ih => intro hm; show smN f m + f m = smN g m + g m; rw [ih (by omega), h m (by omega) (by omega)]
  by_cases h0 : 0 ≤ n
  · exact this _ (by omega)
  · rw [show n.toNat = 0 by omega]; rfl
theorem sm_r {f : Int → Int} {n : Int} (c : Int) (h0 : 0 ≤ n) (h : ∀ i, 0 ≤ i → i < n → 0 ≤ f i ∧ f i ≤ c) : 0 ≤ sm f n ∧ sm f n ≤ c * n := by
  have : ∀ m : Nat, (m : Int) ≤ n → 0 ≤ smN f m ∧ smN f m ≤ c * m := by
    intro m
    induction m with
    | zero => intro _; exact ⟨Int.le_refl _, by show (0 : Int) ≤ c * ((0 : Nat) : Int); simp⟩
    | succ m ih =>
      intro hm
      have h1 := ih (by omega)
      have h2 := h m (by omega) (by omega)
      show 0 ≤ smN f m + f m ∧ smN f m + f m ≤ c * ((m + 1 : Nat) : Int)
      rw [show c * ((m + 1 : Nat) : Int) = c * m + c by rw [Int.natCast_add, Int.mul_add]; simp]
      omega
  have h3 := this n.toNat (by omega)
  rw [show ((n.toNat : Nat) : Int) = n by omega] at h3
  exact h3
noncomputable def fi (P : Int → Prop) (n : Int) : Int := @dite Int (∃ i, (0 ≤ i ∧ i < n) ∧ P i ∧ ∀ j, 0 ≤ j → j < i → ¬ P j) (Classical.propDecidable _) (fun h => h.choose) (fun _ => -1)
theorem fi_hit {P : Int → Prop} {n i : Int} (h0 : 0 ≤ i) (h1 : i < n) (h : P i) (hn : ∀ j, 0 ≤ j → j < i → ¬ P j) : fi P n = i := by
  have e : ∃ i, (0 ≤ i ∧ i < n) ∧ P i ∧ ∀ j, 0 ≤ j → j < i → ¬ P j := ⟨i, ⟨h0, h1⟩, h, hn⟩
  unfold fi
  rw [dif_pos e]
  obtain ⟨⟨c0, c1⟩, cP, cn⟩ := e.choose_spec
  rcases Int.lt_trichotomy e.choose i with q | q | q
  · exact absurd cP (hn _ c0 q)
  · exact q
  · exact absurd h (cn i h0 q)
theorem fi_no {P : Int → Prop} {n : Int} (h : ∀ j, 0 ≤ j → j < n → ¬ P j) : fi P n = -1 := by
  unfold fi
  exact @dif_neg _ (Classical.propDecidable _) (fun ⟨i, ⟨a, b⟩, c, _⟩ => h i a b c) _ _ _
theorem fi_c {P Q : Int → Prop} {n : Int} (h : ∀ i, 0 ≤ i → i < n → (P i ↔ Q i)) : fi P n = fi Q n := by
  by_cases e : ∃ i, (0 ≤ i ∧ i < n) ∧ P i ∧ ∀ j, 0 ≤ j → j < i → ¬ P j
  · obtain ⟨i, ⟨a, b⟩, c, g⟩ := e
    rw [fi_hit a b c g, fi_hit a b ((h i a b).mp c) (fun j j0 j1 q => g j j0 j1 ((h j j0 (by omega)).mpr q))]
  · have e2 : ¬ ∃ i, (0 ≤ i ∧ i < n) ∧ Q i ∧ ∀ j, 0 ≤ j → j < i → ¬ Q j := fun ⟨i, ⟨a, b⟩, c, g⟩ => e ⟨i, ⟨a, b⟩, (h i a b).mpr c, fun j j0 j1 q => g j j0 j1 ((h j j0 (by omega)).mp q)⟩
    unfold fi
    rw [@dif_neg _ (Classical.propDecidable _) e _ _ _, @dif_neg _ (Classical.propDecidable _) e2 _ _ _]
theorem fi_r {P : Int → Prop} {n : Int} : fi P n = -1 ∨ (0 ≤ fi P n ∧ fi P n < n ∧ P (fi P n)) := by
  by_cases e : ∃ i, (0 ≤ i ∧ i < n) ∧ P i ∧ ∀ j, 0 ≤ j → j < i → ¬ P j
  · obtain ⟨i, ⟨a, b⟩, c, g⟩ := e
    rw [fi_hit a b c g]; exact Or.inr ⟨a, b, c⟩
  · left; unfold fi; exact @dif_neg _ (Classical.propDecidable _) e _ _ _
/-! stores, by au and nu -/
section
variable {M : tv_M} {d : Nat} {K : Option XV → GH → Prop} {pc pc' : Nat} {L : List (Option XV)} {st : List XV} {G0 : GH} {bc bs : Nat} {σ : MS}
theorem w_nup {idx : Nat} {v : Int} {ty : FieldType} (k : Nat) (hd : decode M.1 pc = .ok (.putfield idx, 3)) (hp : pc + 3 = pc') (hf : tv_fp M.2.2.1 idx 1 k ty false) (hk : mT k = none) (hv : tv_ft ty (xI v)) (kk : tvW M d K pc' L st (ov (nu σ k v) G0) bc bs) : tvW M d K pc L (xI v :: xR mR :: st) (ov σ G0) bc bs := w_mpi k hd hp hf hk hv kk
theorem w_aui {k n : Nat} {i x : Int} (hd : decode M.1 pc = .ok (.iastore, 1)) (hp : pc + 1 = pc') (hk : mT k = some (0, n)) (h0 : 0 ≤ i) (h1 : i < n) (kk : tvW M d K pc' L st (ov (au σ k (iset (σ.2 k) i x)) G0) bc bs) : tvW M d K pc L (xI x :: xI i :: xR (mr k) :: st) (ov σ G0) bc bs := w_mist hd hp hk h0 h1 kk
theorem w_auz {k n : Nat} {i x : Int} (hd : decode M.1 pc = .ok (.bastore, 1)) (hp : pc + 1 = pc') (hk : mT k = some (3, n)) (h0 : 0 ≤ i) (h1 : i < n) (hx : x = 0 ∨ x = 1) (kk : tvW M d K pc' L st (ov (au σ k (iset (σ.2 k) i x)) G0) bc bs) : tvW M d K pc L (xI x :: xI i :: xR (mr k) :: st) (ov σ G0) bc bs := w_mzst hd hp hk h0 h1 hx kk
theorem w_aul {k n : Nat} {i x : Int} (hd : decode M.1 pc = .ok (.lastore, 1)) (hp : pc + 1 = pc') (hk : mT k = some (4, n)) (h0 : 0 ≤ i) (h1 : i < n) (kk : tvW M d K pc' L st (ov (au σ k (iset (σ.2 k) i x)) G0) bc bs) : tvW M d K pc L (xL x :: xI i :: xR (mr k) :: st) (ov σ G0) bc bs := w_mlst hd hp hk h0 h1 kk
theorem w_ms {τ : MS} (h : σ = τ) (k : tvW M d K pc L st (ov τ G0) bc bs) : tvW M d K pc L st (ov σ G0) bc bs := h ▸ k
end
/-! steps of the state -/
def sKeep (σ : MS) (p : Int) : MS := nu (nu (au (au (au σ 13 (iset (σ.2 13) (σ.1 17) p)) 14 (iset (σ.2 14) (σ.1 17) (σ.2 11 p))) 15 (rfill (σ.2 15) (60 * σ.1 17) (σ.2 11 p) (fun q => σ.2 10 (q - 60 * σ.1 17 + 60 * p)))) 16 (if σ.1 16 < 40 then σ.1 16 + 1 else 40)) 17 ((σ.1 17 + 1) % 40)
def sNew (σ : MS) (len off : Int) : MS := nu (au (au (au σ 6 (iset (σ.2 6) (σ.1 9) len)) 7 (iset (σ.2 7) (σ.1 9) off)) 8 (rfill (σ.2 8) (60 * σ.1 9) len (fun _ => 0))) 9 (σ.1 9 + 1)
def sTake (σ : MS) (p i : Int) : MS := au (au σ 10 (rfill (σ.2 10) (60 * p + i) (σ.2 11 p - 1 - i) (fun q => σ.2 10 (q + 1)))) 11 (iset (σ.2 11) p (σ.2 11 p - 1))
def sOwn (σ : MS) (p i : Int) : MS := nu (au (au (au (au σ 6 (iset (σ.2 6) (σ.1 9) (σ.2 6 (rw_ σ p i)))) 7 (iset (σ.2 7) (σ.1 9) (σ.2 7 (rw_ σ p i)))) 8 (rfill (σ.2 8) (60 * σ.1 9) (σ.2 6 (rw_ σ p i)) (fun q => σ.2 8 (q - 60 * σ.1 9 + 60 * rw_ σ p i)))) 10 (iset (σ.2 10) (60 * p + i) (σ.1 9))) 9 (σ.1 9 + 1)
/-- row number r comes into a pattern at place i -/
def sPutRow (σ : MS) (p i r : Int) : MS := au (au σ 10 (iset (rfill (σ.2 10) (60 * p + i + 1) (σ.2 11 p - i) (fun q => σ.2 10 (q - 1))) (60 * p + i) r)) 11 (iset (σ.2 11) p (σ.2 11 p + 1))
theorem rfill_rfill {f : Int → Int} {a n : Int} {u v : Int → Int} : rfill (rfill f a n u) a n v = rfill f a n v := by
  funext i; unfold rfill; split <;> rfl
theorem rwa {σ : MS} {f : Int → Int} {p i : Int} : rw_ (au σ 10 f) p i = f (60 * p + i) := rfl
