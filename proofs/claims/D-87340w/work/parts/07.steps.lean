set_option maxRecDepth 10000
section STEPS
variable {M : tv_M} {d : Nat} {K : Option XV → GH → Prop} {pc pc' : Nat} {L L' : List (Option XV)} {st : List XV} {G : GH} {bc bs : Nat}
theorem tv_oks_c {G : GH} {v : XV} {st : List XV} : tv_oks G (v :: st) ↔ tv_ok G v ∧ tv_oks G st := List.forall_mem_cons
theorem tv_oks_0 {G : GH} : tv_oks G [] := fun _ h => by cases h
theorem tv_pr_mem {ad : Rl → Nat} {q : Nat × Value} : ∀ {L : List (Option XV)} {i : Nat}, q ∈ tv_pr ad i L ↔ ∃ (k : Nat) (v : XV), L[k]? = some (some v) ∧ q = (i + k, tv_e ad v)
  | [], i => by simp [tv_pr]
  | none :: L, i => by
    rw [show tv_pr ad i (none :: L) = tv_pr ad (i + 1) L from rfl, tv_pr_mem]
    constructor
    · rintro ⟨k, v, h1, h2⟩
      exact ⟨k + 1, v, by simpa using h1, by rw [h2]; congr 1; omega⟩
    · rintro ⟨k, v, h1, h2⟩
      cases k with
      | zero => simp at h1
      | succ k => exact ⟨k, v, by simpa using h1, by rw [h2]; congr 1; omega⟩
  | some u :: L, i => by
    rw [show tv_pr ad i (some u :: L) = (i, tv_e ad u) :: tv_pr ad (i + 1) L from rfl, List.mem_cons, tv_pr_mem]
    constructor
    · rintro (h | ⟨k, v, h1, h2⟩)
      · exact ⟨0, u, rfl, h⟩
      · exact ⟨k + 1, v, by simpa using h1, by rw [h2]; congr 1; omega⟩
    · rintro ⟨k, v, h1, h2⟩
      cases k with
      | zero => left; simp at h1; subst h1; exact h2
      | succ k => right; exact ⟨k, v, by simpa using h1, by rw [h2]; congr 1; omega⟩
theorem tv_loc {ad : Rl → Nat} {ls : Array Slot} {n k : Nat} {v : XV} (h : lv_has ls n (tv_pr ad 0 L)) (hk : L[k]? = some (some v)) : ls[k]? = some (.val (tv_e ad v)) := by
  have := h.2.2 (k, tv_e ad v) (tv_pr_mem.mpr ⟨k, v, hk, by simp⟩)
  exact this

theorem w_iadd {a b : Int} (hd : decode M.1 pc = .ok (.iadd, 1)) (hp : pc + 1 = pc') (hr : rg (a + b)) (k : tvW M d K pc' L (xI (a + b) :: st) G bc bs) : tvW M d K pc L (xI b :: xI a :: st) G bc bs := by
  intro O ad0 G0 p l e R s m args below meth c Q E ad dom H locs cells slots ls S
  obtain ⟨hR, hst, hL, hS⟩ := S
  subst hp
  obtain ⟨h0, hst⟩ := tv_oks_c.mp hst
  obtain ⟨h1, hst⟩ := tv_oks_c.mp hst
  have kk := k O ad0 G0 p l e R s m args below meth c Q E ad dom H locs cells slots ls ⟨hR, tv_oks_c.mpr ⟨hr, hst⟩, hL, hS⟩
  refine lv_iadd E.1 E.2.1 hd ?_
  rw [← Int32.ofInt_add]
  exact kk
theorem w_isub {a b : Int} (hd : decode M.1 pc = .ok (.isub, 1)) (hp : pc + 1 = pc') (hr : rg (a - b)) (k : tvW M d K pc' L (xI (a - b) :: st) G bc bs) : tvW M d K pc L (xI b :: xI a :: st) G bc bs := by
  intro O ad0 G0 p l e R s m args below meth c Q E ad dom H locs cells slots ls S
  obtain ⟨hR, hst, hL, hS⟩ := S
  subst hp
  obtain ⟨h0, hst⟩ := tv_oks_c.mp hst
  obtain ⟨h1, hst⟩ := tv_oks_c.mp hst
  have kk := k O ad0 G0 p l e R s m args below meth c Q E ad dom H locs cells slots ls ⟨hR, tv_oks_c.mpr ⟨hr, hst⟩, hL, hS⟩
  refine lv_isub E.1 E.2.1 hd ?_
  rw [← Int32.ofInt_sub]
  exact kk
theorem w_imul {a b : Int} (hd : decode M.1 pc = .ok (.imul, 1)) (hp : pc + 1 = pc') (hr : rg (a * b)) (k : tvW M d K pc' L (xI (a * b) :: st) G bc bs) : tvW M d K pc L (xI b :: xI a :: st) G bc bs := by
  intro O ad0 G0 p l e R s m args below meth c Q E ad dom H locs cells slots ls S
  obtain ⟨hR, hst, hL, hS⟩ := S
  subst hp
  obtain ⟨h0, hst⟩ := tv_oks_c.mp hst
  obtain ⟨h1, hst⟩ := tv_oks_c.mp hst
  have kk := k O ad0 G0 p l e R s m args below meth c Q E ad dom H locs cells slots ls ⟨hR, tv_oks_c.mpr ⟨hr, hst⟩, hL, hS⟩
  refine lv_imul E.1 E.2.1 hd ?_
  rw [← Int32.ofInt_mul]
  exact kk
theorem w_ineg {a : Int} (hd : decode M.1 pc = .ok (.ineg, 1)) (hp : pc + 1 = pc') (hr : rg (-a)) (k : tvW M d K pc' L (xI (-a) :: st) G bc bs) : tvW M d K pc L (xI a :: st) G bc bs := by
  intro O ad0 G0 p l e R s m args below meth c Q E ad dom H locs cells slots ls S
  obtain ⟨hR, hst, hL, hS⟩ := S
  subst hp
  obtain ⟨h0, hst⟩ := tv_oks_c.mp hst
  have kk := k O ad0 G0 p l e R s m args below meth c Q E ad dom H locs cells slots ls ⟨hR, tv_oks_c.mpr ⟨hr, hst⟩, hL, hS⟩
  refine lv_ineg E.1 E.2.1 hd ?_
  rw [← Int32.ofInt_neg]
  exact kk
theorem w_iand {a b : Int} (hd : decode M.1 pc = .ok (.iand, 1)) (hp : pc + 1 = pc') (k : tvW M d K pc' L (xI (bAnd a b) :: st) G bc bs) : tvW M d K pc L (xI b :: xI a :: st) G bc bs := by
  intro O ad0 G0 p l e R s m args below meth c Q E ad dom H locs cells slots ls S
  obtain ⟨hR, hst, hL, hS⟩ := S
  subst hp
  obtain ⟨h0, hst⟩ := tv_oks_c.mp hst
  obtain ⟨h1, hst⟩ := tv_oks_c.mp hst
  have kk := k O ad0 G0 p l e R s m args below meth c Q E ad dom H locs cells slots ls ⟨hR, tv_oks_c.mpr ⟨e_rg _, hst⟩, hL, hS⟩
  refine lv_iand E.1 E.2.1 hd ?_
  have q : Int32.ofInt (bAnd a b) = _ := Int32.ofInt_toInt _
  rw [← q]
  exact kk
theorem w_ior {a b : Int} (hd : decode M.1 pc = .ok (.ior, 1)) (hp : pc + 1 = pc') (k : tvW M d K pc' L (xI (bOr a b) :: st) G bc bs) : tvW M d K pc L (xI b :: xI a :: st) G bc bs := by
  intro O ad0 G0 p l e R s m args below meth c Q E ad dom H locs cells slots ls S
  obtain ⟨hR, hst, hL, hS⟩ := S
  subst hp
  obtain ⟨h0, hst⟩ := tv_oks_c.mp hst
  obtain ⟨h1, hst⟩ := tv_oks_c.mp hst
  have kk := k O ad0 G0 p l e R s m args below meth c Q E ad dom H locs cells slots ls ⟨hR, tv_oks_c.mpr ⟨e_rg _, hst⟩, hL, hS⟩
  refine lv_ior E.1 E.2.1 hd ?_
  have q : Int32.ofInt (bOr a b) = _ := Int32.ofInt_toInt _
  rw [← q]
  exact kk
theorem w_ixor {a b : Int} (hd : decode M.1 pc = .ok (.ixor, 1)) (hp : pc + 1 = pc') (k : tvW M d K pc' L (xI (bXor a b) :: st) G bc bs) : tvW M d K pc L (xI b :: xI a :: st) G bc bs := by
  intro O ad0 G0 p l e R s m args below meth c Q E ad dom H locs cells slots ls S
  obtain ⟨hR, hst, hL, hS⟩ := S
  subst hp
  obtain ⟨h0, hst⟩ := tv_oks_c.mp hst
  obtain ⟨h1, hst⟩ := tv_oks_c.mp hst
  have kk := k O ad0 G0 p l e R s m args below meth c Q E ad dom H locs cells slots ls ⟨hR, tv_oks_c.mpr ⟨e_rg _, hst⟩, hL, hS⟩
  refine lv_ixor E.1 E.2.1 hd ?_
  have q : Int32.ofInt (bXor a b) = _ := Int32.ofInt_toInt _
  rw [← q]
  exact kk
theorem w_ishl {a b : Int} (hd : decode M.1 pc = .ok (.ishl, 1)) (hp : pc + 1 = pc') (k : tvW M d K pc' L (xI (bShl a b) :: st) G bc bs) : tvW M d K pc L (xI b :: xI a :: st) G bc bs := by
  intro O ad0 G0 p l e R s m args below meth c Q E ad dom H locs cells slots ls S
  obtain ⟨hR, hst, hL, hS⟩ := S
  subst hp
  obtain ⟨h0, hst⟩ := tv_oks_c.mp hst
  obtain ⟨h1, hst⟩ := tv_oks_c.mp hst
  have kk := k O ad0 G0 p l e R s m args below meth c Q E ad dom H locs cells slots ls ⟨hR, tv_oks_c.mpr ⟨e_rg _, hst⟩, hL, hS⟩
  refine lv_ishl E.1 E.2.1 hd ?_
  have q : Int32.ofInt (bShl a b) = _ := Int32.ofInt_toInt _
  rw [← q]
  exact kk
theorem w_ishr {a b : Int} (hd : decode M.1 pc = .ok (.ishr, 1)) (hp : pc + 1 = pc') (k : tvW M d K pc' L (xI (bShr a b) :: st) G bc bs) : tvW M d K pc L (xI b :: xI a :: st) G bc bs := by
  intro O ad0 G0 p l e R s m args below meth c Q E ad dom H locs cells slots ls S
  obtain ⟨hR, hst, hL, hS⟩ := S
  subst hp
  obtain ⟨h0, hst⟩ := tv_oks_c.mp hst
  obtain ⟨h1, hst⟩ := tv_oks_c.mp hst
  have kk := k O ad0 G0 p l e R s m args below meth c Q E ad dom H locs cells slots ls ⟨hR, tv_oks_c.mpr ⟨e_rg _, hst⟩, hL, hS⟩
  refine lv_ishr E.1 E.2.1 hd ?_
  have q : Int32.ofInt (bShr a b) = _ := Int32.ofInt_toInt _
  rw [← q]
  exact kk
theorem w_ladd {a b : Int} (hd : decode M.1 pc = .ok (.ladd, 1)) (hp : pc + 1 = pc') (k : tvW M d K pc' L (xL (lAdd a b) :: st) G bc bs) : tvW M d K pc L (xL b :: xL a :: st) G bc bs := by
  intro O ad0 G0 p l e R s m args below meth c Q E ad dom H locs cells slots ls S
  obtain ⟨hR, hst, hL, hS⟩ := S
  subst hp
  obtain ⟨h0, hst⟩ := tv_oks_c.mp hst
  obtain ⟨h1, hst⟩ := tv_oks_c.mp hst
  have kk := k O ad0 G0 p l e R s m args below meth c Q E ad dom H locs cells slots ls ⟨hR, tv_oks_c.mpr ⟨e_rgL _, hst⟩, hL, hS⟩
  refine lv_ladd E.1 E.2.1 hd ?_
  have q : Int64.ofInt (lAdd a b) = _ := Int64.ofInt_toInt _
  rw [← q]
  exact kk
theorem w_lsub {a b : Int} (hd : decode M.1 pc = .ok (.lsub, 1)) (hp : pc + 1 = pc') (k : tvW M d K pc' L (xL (lSub a b) :: st) G bc bs) : tvW M d K pc L (xL b :: xL a :: st) G bc bs := by
  intro O ad0 G0 p l e R s m args below meth c Q E ad dom H locs cells slots ls S
  obtain ⟨hR, hst, hL, hS⟩ := S
  subst hp
  obtain ⟨h0, hst⟩ := tv_oks_c.mp hst
  obtain ⟨h1, hst⟩ := tv_oks_c.mp hst
  have kk := k O ad0 G0 p l e R s m args below meth c Q E ad dom H locs cells slots ls ⟨hR, tv_oks_c.mpr ⟨e_rgL _, hst⟩, hL, hS⟩
  refine lv_lsub E.1 E.2.1 hd ?_
  have q : Int64.ofInt (lSub a b) = _ := Int64.ofInt_toInt _
  rw [← q]
  exact kk
theorem w_lmul {a b : Int} (hd : decode M.1 pc = .ok (.lmul, 1)) (hp : pc + 1 = pc') (k : tvW M d K pc' L (xL (lMul a b) :: st) G bc bs) : tvW M d K pc L (xL b :: xL a :: st) G bc bs := by
  intro O ad0 G0 p l e R s m args below meth c Q E ad dom H locs cells slots ls S
  obtain ⟨hR, hst, hL, hS⟩ := S
  subst hp
  obtain ⟨h0, hst⟩ := tv_oks_c.mp hst
  obtain ⟨h1, hst⟩ := tv_oks_c.mp hst
  have kk := k O ad0 G0 p l e R s m args below meth c Q E ad dom H locs cells slots ls ⟨hR, tv_oks_c.mpr ⟨e_rgL _, hst⟩, hL, hS⟩
  refine lv_lmul E.1 E.2.1 hd ?_
  have q : Int64.ofInt (lMul a b) = _ := Int64.ofInt_toInt _
  rw [← q]
  exact kk
theorem w_land {a b : Int} (hd : decode M.1 pc = .ok (.land, 1)) (hp : pc + 1 = pc') (k : tvW M d K pc' L (xL (lAnd a b) :: st) G bc bs) : tvW M d K pc L (xL b :: xL a :: st) G bc bs := by
  intro O ad0 G0 p l e R s m args below meth c Q E ad dom H locs cells slots ls S
  obtain ⟨hR, hst, hL, hS⟩ := S
  subst hp
  obtain ⟨h0, hst⟩ := tv_oks_c.mp hst
  obtain ⟨h1, hst⟩ := tv_oks_c.mp hst
  have kk := k O ad0 G0 p l e R s m args below meth c Q E ad dom H locs cells slots ls ⟨hR, tv_oks_c.mpr ⟨e_rgL _, hst⟩, hL, hS⟩
  refine lv_land E.1 E.2.1 hd ?_
  have q : Int64.ofInt (lAnd a b) = _ := Int64.ofInt_toInt _
  rw [← q]
  exact kk
theorem w_lor {a b : Int} (hd : decode M.1 pc = .ok (.lor, 1)) (hp : pc + 1 = pc') (k : tvW M d K pc' L (xL (lOr a b) :: st) G bc bs) : tvW M d K pc L (xL b :: xL a :: st) G bc bs := by
  intro O ad0 G0 p l e R s m args below meth c Q E ad dom H locs cells slots ls S
  obtain ⟨hR, hst, hL, hS⟩ := S
  subst hp
  obtain ⟨h0, hst⟩ := tv_oks_c.mp hst
  obtain ⟨h1, hst⟩ := tv_oks_c.mp hst
  have kk := k O ad0 G0 p l e R s m args below meth c Q E ad dom H locs cells slots ls ⟨hR, tv_oks_c.mpr ⟨e_rgL _, hst⟩, hL, hS⟩
  refine lv_lor E.1 E.2.1 hd ?_
  have q : Int64.ofInt (lOr a b) = _ := Int64.ofInt_toInt _
  rw [← q]
  exact kk
theorem w_lxor {a b : Int} (hd : decode M.1 pc = .ok (.lxor, 1)) (hp : pc + 1 = pc') (k : tvW M d K pc' L (xL (lXor a b) :: st) G bc bs) : tvW M d K pc L (xL b :: xL a :: st) G bc bs := by
  intro O ad0 G0 p l e R s m args below meth c Q E ad dom H locs cells slots ls S
  obtain ⟨hR, hst, hL, hS⟩ := S
  subst hp
  obtain ⟨h0, hst⟩ := tv_oks_c.mp hst
  obtain ⟨h1, hst⟩ := tv_oks_c.mp hst
  have kk := k O ad0 G0 p l e R s m args below meth c Q E ad dom H locs cells slots ls ⟨hR, tv_oks_c.mpr ⟨e_rgL _, hst⟩, hL, hS⟩
  refine lv_lxor E.1 E.2.1 hd ?_
  have q : Int64.ofInt (lXor a b) = _ := Int64.ofInt_toInt _
  rw [← q]
  exact kk
theorem w_ldiv {a b : Int} (hd : decode M.1 pc = .ok (.ldiv, 1)) (hp : pc + 1 = pc') (hb : b ≠ 0) (k : tvW M d K pc' L (xL (lDiv a b) :: st) G bc bs) : tvW M d K pc L (xL b :: xL a :: st) G bc bs := by
  intro O ad0 G0 p l e R s m args below meth c Q E ad dom H locs cells slots ls S
  obtain ⟨hR, hst, hL, hS⟩ := S
  subst hp
  obtain ⟨h0, hst⟩ := tv_oks_c.mp hst
  obtain ⟨h1, hst⟩ := tv_oks_c.mp hst
  have kk := k O ad0 G0 p l e R s m args below meth c Q E ad dom H locs cells slots ls ⟨hR, tv_oks_c.mpr ⟨e_rgL _, hst⟩, hL, hS⟩
  refine lv_ldiv E.1 E.2.1 hd (fun q => hb (by rw [show (0 : Int64) = Int64.ofInt 0 from rfl] at q; exact (e_eqL h0 ⟨by omega, by omega⟩).mp q)) ?_
  have q : Int64.ofInt (lDiv a b) = _ := Int64.ofInt_toInt _
  rw [← q]
  exact kk
theorem w_lneg {a : Int} (hd : decode M.1 pc = .ok (.lneg, 1)) (hp : pc + 1 = pc') (k : tvW M d K pc' L (xL (lNeg a) :: st) G bc bs) : tvW M d K pc L (xL a :: st) G bc bs := by
  intro O ad0 G0 p l e R s m args below meth c Q E ad dom H locs cells slots ls S
  obtain ⟨hR, hst, hL, hS⟩ := S
  subst hp
  obtain ⟨h0, hst⟩ := tv_oks_c.mp hst
  have kk := k O ad0 G0 p l e R s m args below meth c Q E ad dom H locs cells slots ls ⟨hR, tv_oks_c.mpr ⟨e_rgL _, hst⟩, hL, hS⟩
  refine lv_lneg E.1 E.2.1 hd ?_
  have q : Int64.ofInt (lNeg a) = _ := Int64.ofInt_toInt _
  rw [← q]
  exact kk
theorem w_lshl {a b : Int} (hd : decode M.1 pc = .ok (.lshl, 1)) (hp : pc + 1 = pc') (k : tvW M d K pc' L (xL (lShl a b) :: st) G bc bs) : tvW M d K pc L (xI b :: xL a :: st) G bc bs := by
  intro O ad0 G0 p l e R s m args below meth c Q E ad dom H locs cells slots ls S
  obtain ⟨hR, hst, hL, hS⟩ := S
  subst hp
  obtain ⟨h0, hst⟩ := tv_oks_c.mp hst
  obtain ⟨h1, hst⟩ := tv_oks_c.mp hst
  have kk := k O ad0 G0 p l e R s m args below meth c Q E ad dom H locs cells slots ls ⟨hR, tv_oks_c.mpr ⟨e_rgL _, hst⟩, hL, hS⟩
  refine lv_lshl E.1 E.2.1 hd rfl ?_
  have q : Int64.ofInt (lShl a b) = _ := Int64.ofInt_toInt _
  rw [← q]
  exact kk
theorem w_lshr {a b : Int} (hd : decode M.1 pc = .ok (.lshr, 1)) (hp : pc + 1 = pc') (k : tvW M d K pc' L (xL (lShr a b) :: st) G bc bs) : tvW M d K pc L (xI b :: xL a :: st) G bc bs := by
  intro O ad0 G0 p l e R s m args below meth c Q E ad dom H locs cells slots ls S
  obtain ⟨hR, hst, hL, hS⟩ := S
  subst hp
  obtain ⟨h0, hst⟩ := tv_oks_c.mp hst
  obtain ⟨h1, hst⟩ := tv_oks_c.mp hst
  have kk := k O ad0 G0 p l e R s m args below meth c Q E ad dom H locs cells slots ls ⟨hR, tv_oks_c.mpr ⟨e_rgL _, hst⟩, hL, hS⟩
  refine lv_lshr E.1 E.2.1 hd rfl ?_
  have q : Int64.ofInt (lShr a b) = _ := Int64.ofInt_toInt _
  rw [← q]
  exact kk
theorem w_lushr {a b : Int} (hd : decode M.1 pc = .ok (.lushr, 1)) (hp : pc + 1 = pc') (k : tvW M d K pc' L (xL (lUshr a b) :: st) G bc bs) : tvW M d K pc L (xI b :: xL a :: st) G bc bs := by
  intro O ad0 G0 p l e R s m args below meth c Q E ad dom H locs cells slots ls S
  obtain ⟨hR, hst, hL, hS⟩ := S
  subst hp
  obtain ⟨h0, hst⟩ := tv_oks_c.mp hst
  obtain ⟨h1, hst⟩ := tv_oks_c.mp hst
  have kk := k O ad0 G0 p l e R s m args below meth c Q E ad dom H locs cells slots ls ⟨hR, tv_oks_c.mpr ⟨e_rgL _, hst⟩, hL, hS⟩
  refine lv_lushr E.1 E.2.1 hd rfl ?_
  have q : Int64.ofInt (lUshr a b) = _ := Int64.ofInt_toInt _
  rw [← q]
  exact kk
theorem w_i2l {a : Int} (hd : decode M.1 pc = .ok (.i2l, 1)) (hp : pc + 1 = pc') (k : tvW M d K pc' L (xL a :: st) G bc bs) : tvW M d K pc L (xI a :: st) G bc bs := by
  intro O ad0 G0 p l e R s m args below meth c Q E ad dom H locs cells slots ls S
  obtain ⟨hR, hst, hL, hS⟩ := S
  subst hp
  obtain ⟨h0, hst⟩ := tv_oks_c.mp hst
  have kk := k O ad0 G0 p l e R s m args below meth c Q E ad dom H locs cells slots ls ⟨hR, tv_oks_c.mpr ⟨⟨by have := h0.1; omega, by have := h0.2; omega⟩, hst⟩, hL, hS⟩
  refine lv_i2l (v := Int64.ofInt a) E.1 E.2.1 hd (Int32.toInt64_ofInt h0.1 h0.2) ?_
  exact kk
theorem w_l2i {a : Int} (hd : decode M.1 pc = .ok (.l2i, 1)) (hp : pc + 1 = pc') (k : tvW M d K pc' L (xI (lI a) :: st) G bc bs) : tvW M d K pc L (xL a :: st) G bc bs := by
  intro O ad0 G0 p l e R s m args below meth c Q E ad dom H locs cells slots ls S
  obtain ⟨hR, hst, hL, hS⟩ := S
  subst hp
  obtain ⟨h0, hst⟩ := tv_oks_c.mp hst
  have kk := k O ad0 G0 p l e R s m args below meth c Q E ad dom H locs cells slots ls ⟨hR, tv_oks_c.mpr ⟨e_rg _, hst⟩, hL, hS⟩
  refine lv_l2i (v := Int32.ofInt (lI a)) E.1 E.2.1 hd (Int32.ofInt_toInt _).symm ?_
  exact kk
theorem w_i2b {a : Int} (hd : decode M.1 pc = .ok (.i2b, 1)) (hp : pc + 1 = pc') (k : tvW M d K pc' L (xI (iB a) :: st) G bc bs) : tvW M d K pc L (xI a :: st) G bc bs := by
  intro O ad0 G0 p l e R s m args below meth c Q E ad dom H locs cells slots ls S
  obtain ⟨hR, hst, hL, hS⟩ := S
  subst hp
  obtain ⟨h0, hst⟩ := tv_oks_c.mp hst
  have kk := k O ad0 G0 p l e R s m args below meth c Q E ad dom H locs cells slots ls ⟨hR, tv_oks_c.mpr ⟨by have := (Int32.ofInt a).toInt8.toInt_lt; have := (Int32.ofInt a).toInt8.le_toInt; exact ⟨by unfold iB; omega, by unfold iB; omega⟩, hst⟩, hL, hS⟩
  refine lv_i2b (v := Int32.ofInt (iB a)) E.1 E.2.1 hd rfl ?_
  exact kk
theorem w_i2s {a : Int} (hd : decode M.1 pc = .ok (.i2s, 1)) (hp : pc + 1 = pc') (k : tvW M d K pc' L (xI (iS a) :: st) G bc bs) : tvW M d K pc L (xI a :: st) G bc bs := by
  intro O ad0 G0 p l e R s m args below meth c Q E ad dom H locs cells slots ls S
  obtain ⟨hR, hst, hL, hS⟩ := S
  subst hp
  obtain ⟨h0, hst⟩ := tv_oks_c.mp hst
  have kk := k O ad0 G0 p l e R s m args below meth c Q E ad dom H locs cells slots ls ⟨hR, tv_oks_c.mpr ⟨by have := (Int32.ofInt a).toInt16.toInt_lt; have := (Int32.ofInt a).toInt16.le_toInt; exact ⟨by unfold iS; omega, by unfold iS; omega⟩, hst⟩, hL, hS⟩
  refine lv_i2s (v := Int32.ofInt (iS a)) E.1 E.2.1 hd rfl ?_
  exact kk
theorem w_lcmp {a b : Int} (hd : decode M.1 pc = .ok (.lcmp, 1)) (hp : pc + 1 = pc') (k : tvW M d K pc' L (xI (lCmp a b) :: st) G bc bs) : tvW M d K pc L (xL b :: xL a :: st) G bc bs := by
  intro O ad0 G0 p l e R s m args below meth c Q E ad dom H locs cells slots ls S
  obtain ⟨hR, hst, hL, hS⟩ := S
  subst hp
  obtain ⟨h0, hst⟩ := tv_oks_c.mp hst
  obtain ⟨h1, hst⟩ := tv_oks_c.mp hst
  have kk := k O ad0 G0 p l e R s m args below meth c Q E ad dom H locs cells slots ls ⟨hR, tv_oks_c.mpr ⟨by unfold lCmp; split; (exact ⟨by omega, by omega⟩); split <;> exact ⟨by omega, by omega⟩, hst⟩, hL, hS⟩
  refine W.lcmp E.1 E.2.1 hd ?_
  rw [e_cmp h1 h0]
  exact kk
theorem e_div {a b : Int} (ha : rg a) (hb : rg b) (h0 : 0 ≤ a) (h1 : 0 < b) : Int32.ofInt a / Int32.ofInt b = Int32.ofInt (a / b) := by
  rw [← Int32.ofInt_tdiv ha.1 ha.2 hb.1 hb.2, Int.tdiv_eq_ediv_of_nonneg h0]
theorem e_rem {a b : Int} (ha : rg a) (hb : rg b) (h0 : 0 ≤ a) (h1 : 0 < b) : Int32.ofInt a - Int32.ofInt a / Int32.ofInt b * Int32.ofInt b = Int32.ofInt (a % b) := by
  rw [e_div ha hb h0 h1, ← Int32.ofInt_mul, ← Int32.ofInt_sub, Int.emod_def, Int.mul_comm]
theorem e_divr {a b : Int} (ha : rg a) (h0 : 0 ≤ a) (h1 : 0 < b) : rg (a / b) := by
  have := Int.ediv_le_self b h0
  have := Int.ediv_nonneg h0 (Int.le_of_lt h1)
  have := ha.2
  exact ⟨by omega, by omega⟩
theorem e_remr {a b : Int} (hb : rg b) (h1 : 0 < b) : rg (a % b) := by
  have := Int.emod_lt_of_pos a h1
  have := Int.emod_nonneg a (by omega : b ≠ 0)
  have := hb.2
  exact ⟨by omega, by omega⟩
theorem e_ne0 {b : Int} (hb : rg b) (h1 : 0 < b) : ¬ Int32.ofInt b = 0 := fun q => by
  rw [e_0] at q
  have := (e_eq hb ⟨by omega, by omega⟩).mp q
  omega
theorem w_idiv {a b : Int} (hd : decode M.1 pc = .ok (.idiv, 1)) (hp : pc + 1 = pc') (ha : 0 ≤ a) (hb : 0 < b) (k : tvW M d K pc' L (xI (a / b) :: st) G bc bs) : tvW M d K pc L (xI b :: xI a :: st) G bc bs := by
  intro O ad0 G0 p l e R s m args below meth c Q E ad dom H locs cells slots ls S
  obtain ⟨hR, hst, hL, hS⟩ := S
  subst hp
  obtain ⟨h0, hst⟩ := tv_oks_c.mp hst
  obtain ⟨h1, hst⟩ := tv_oks_c.mp hst
  have kk := k O ad0 G0 p l e R s m args below meth c Q E ad dom H locs cells slots ls ⟨hR, tv_oks_c.mpr ⟨e_divr h1 ha hb, hst⟩, hL, hS⟩
  refine lv_idiv E.1 E.2.1 hd (e_ne0 h0 hb) ?_
  rw [e_div h1 h0 ha hb]
  exact kk
theorem w_irem {a b : Int} (hd : decode M.1 pc = .ok (.irem, 1)) (hp : pc + 1 = pc') (ha : 0 ≤ a) (hb : 0 < b) (k : tvW M d K pc' L (xI (a % b) :: st) G bc bs) : tvW M d K pc L (xI b :: xI a :: st) G bc bs := by
  intro O ad0 G0 p l e R s m args below meth c Q E ad dom H locs cells slots ls S
  obtain ⟨hR, hst, hL, hS⟩ := S
  subst hp
  obtain ⟨h0, hst⟩ := tv_oks_c.mp hst
  obtain ⟨h1, hst⟩ := tv_oks_c.mp hst
  have kk := k O ad0 G0 p l e R s m args below meth c Q E ad dom H locs cells slots ls ⟨hR, tv_oks_c.mpr ⟨e_remr h0 hb, hst⟩, hL, hS⟩
  refine lv_irem E.1 E.2.1 hd (e_ne0 h0 hb) ?_
  rw [e_rem h1 h0 ha hb]
  exact kk
theorem w_iconst {n : Int} (hd : decode M.1 pc = .ok (.iconst n, 1)) (hp : pc + 1 = pc') (hr : rg n) (k : tvW M d K pc' L (xI n :: st) G bc bs) : tvW M d K pc L st G bc bs := by
  intro O ad0 G0 p l e R s m args below meth c Q E ad dom H locs cells slots ls S
  obtain ⟨hR, hst, hL, hS⟩ := S
  subst hp
  have kk := k O ad0 G0 p l e R s m args below meth c Q E ad dom H locs cells slots ls ⟨hR, tv_oks_c.mpr ⟨hr, hst⟩, hL, hS⟩
  refine lv_iconst E.1 E.2.1 hd rfl ?_
  exact kk
theorem w_bipush {n : Int} (hd : decode M.1 pc = .ok (.bipush n, 2)) (hp : pc + 2 = pc') (hv : (Int8.ofInt n).toInt32 = Int32.ofInt n) (hr : rg n) (k : tvW M d K pc' L (xI n :: st) G bc bs) : tvW M d K pc L st G bc bs := by
  intro O ad0 G0 p l e R s m args below meth c Q E ad dom H locs cells slots ls S
  obtain ⟨hR, hst, hL, hS⟩ := S
  subst hp
  have kk := k O ad0 G0 p l e R s m args below meth c Q E ad dom H locs cells slots ls ⟨hR, tv_oks_c.mpr ⟨hr, hst⟩, hL, hS⟩
  refine lv_bipush E.1 E.2.1 hd hv ?_
  exact kk
theorem w_sipush {n : Int} (hd : decode M.1 pc = .ok (.sipush n, 3)) (hp : pc + 3 = pc') (hv : (Int16.ofInt n).toInt32 = Int32.ofInt n) (hr : rg n) (k : tvW M d K pc' L (xI n :: st) G bc bs) : tvW M d K pc L st G bc bs := by
  intro O ad0 G0 p l e R s m args below meth c Q E ad dom H locs cells slots ls S
  obtain ⟨hR, hst, hL, hS⟩ := S
  subst hp
  have kk := k O ad0 G0 p l e R s m args below meth c Q E ad dom H locs cells slots ls ⟨hR, tv_oks_c.mpr ⟨hr, hst⟩, hL, hS⟩
  refine lv_sipush E.1 E.2.1 hd hv ?_
  exact kk
theorem w_lconst {n : Fin 2} {z : Int} (hd : decode M.1 pc = .ok (.lconst n, 1)) (hp : pc + 1 = pc') (hv : Int64.ofNat (n : Nat) = Int64.ofInt z) (hr : rgL z) (k : tvW M d K pc' L (xL z :: st) G bc bs) : tvW M d K pc L st G bc bs := by
  intro O ad0 G0 p l e R s m args below meth c Q E ad dom H locs cells slots ls S
  obtain ⟨hR, hst, hL, hS⟩ := S
  subst hp
  have kk := k O ad0 G0 p l e R s m args below meth c Q E ad dom H locs cells slots ls ⟨hR, tv_oks_c.mpr ⟨hr, hst⟩, hL, hS⟩
  refine lv_lconst E.1 E.2.1 hd hv ?_
  exact kk
theorem w_ldc {i : Nat} {v : Int32} {z : Int} (hd : decode M.1 pc = .ok (.ldc i, 2)) (hp : pc + 2 = pc') (hw : Cond.constant M.2.2.1 i v ∈ lw_all) (hv : v = Int32.ofInt z) (hr : rg z) (k : tvW M d K pc' L (xI z :: st) G bc bs) : tvW M d K pc L st G bc bs := by
  intro O ad0 G0 p l e R s m args below meth c Q E ad dom H locs cells slots ls S
  obtain ⟨hR, hst, hL, hS⟩ := S
  subst hp
  have kk := k O ad0 G0 p l e R s m args below meth c Q E ad dom H locs cells slots ls ⟨hR, tv_oks_c.mpr ⟨hr, hst⟩, hL, hS⟩
  subst hv
  refine lv_ldc E.1 E.2.1 E.2.2.2.1 (E.2.2.2.2.1 _ hw) hd ?_
  exact kk
theorem w_ldc2 {i : Nat} {v : Int64} {z : Int} (hd : decode M.1 pc = .ok (.ldc2_w i, 3)) (hp : pc + 3 = pc') (hw : Cond.constantLong M.2.2.1 i v ∈ lw_all) (hv : v = Int64.ofInt z) (hr : rgL z) (k : tvW M d K pc' L (xL z :: st) G bc bs) : tvW M d K pc L st G bc bs := by
  intro O ad0 G0 p l e R s m args below meth c Q E ad dom H locs cells slots ls S
  obtain ⟨hR, hst, hL, hS⟩ := S
  subst hp
  have kk := k O ad0 G0 p l e R s m args below meth c Q E ad dom H locs cells slots ls ⟨hR, tv_oks_c.mpr ⟨hr, hst⟩, hL, hS⟩
  subst hv
  refine lv_ldc2 E.1 E.2.1 E.2.2.2.1 (E.2.2.2.2.1 _ hw) hd ?_
  exact kk
theorem w_ldcw {i : Nat} {v : Int32} {z : Int} (hd : decode M.1 pc = .ok (.ldc_w i, 3)) (hp : pc + 3 = pc') (hw : Cond.constant M.2.2.1 i v ∈ lw_all) (hv : v = Int32.ofInt z) (hr : rg z) (k : tvW M d K pc' L (xI z :: st) G bc bs) : tvW M d K pc L st G bc bs := by
  intro O ad0 G0 p l e R s m args below meth c Q E ad dom H locs cells slots ls S
  obtain ⟨hR, hst, hL, hS⟩ := S
  subst hp
  have kk := k O ad0 G0 p l e R s m args below meth c Q E ad dom H locs cells slots ls ⟨hR, tv_oks_c.mpr ⟨hr, hst⟩, hL, hS⟩
  subst hv
  refine lv_ldcw E.1 E.2.1 E.2.2.2.1 (E.2.2.2.2.1 _ hw) hd ?_
  exact kk
theorem w_null (hd : decode M.1 pc = .ok (.aconst_null, 1)) (hp : pc + 1 = pc') (k : tvW M d K pc' L (xN :: st) G bc bs) : tvW M d K pc L st G bc bs := by
  intro O ad0 G0 p l e R s m args below meth c Q E ad dom H locs cells slots ls S
  obtain ⟨hR, hst, hL, hS⟩ := S
  subst hp
  have kk := k O ad0 G0 p l e R s m args below meth c Q E ad dom H locs cells slots ls ⟨hR, tv_oks_c.mpr ⟨trivial, hst⟩, hL, hS⟩
  refine lv_null E.1 E.2.1 hd ?_
  exact kk
theorem w_okL {v : XV} {i : Nat} (hL : tv_okL G L) (h : L[i]? = some (some v)) : tv_ok G v := hL v (List.mem_of_getElem? h)
theorem w_iload_n {i : Fin 4} {z : Int} (hd : decode M.1 pc = .ok (.iload_n i, 1)) (hp : pc + 1 = pc') (hi : L[(i : Nat)]? = some (some (xI z))) (k : tvW M d K pc' L (xI z :: st) G bc bs) : tvW M d K pc L st G bc bs := by
  intro O ad0 G0 p l e R s m args below meth c Q E ad dom H locs cells slots ls S
  obtain ⟨hR, hst, hL, hS⟩ := S
  subst hp
  have kk := k O ad0 G0 p l e R s m args below meth c Q E ad dom H locs cells slots ls ⟨hR, tv_oks_c.mpr ⟨w_okL hL hi, hst⟩, hL, hS⟩
  have hv := tv_loc hS.1 hi
  exact lv_iload_n E.1 E.2.1 hd rfl hv kk
theorem w_iload {i : Nat} {z : Int} (hd : decode M.1 pc = .ok (.iload i, 2)) (hp : pc + 2 = pc') (hi : L[i]? = some (some (xI z))) (k : tvW M d K pc' L (xI z :: st) G bc bs) : tvW M d K pc L st G bc bs := by
  intro O ad0 G0 p l e R s m args below meth c Q E ad dom H locs cells slots ls S
  obtain ⟨hR, hst, hL, hS⟩ := S
  subst hp
  have kk := k O ad0 G0 p l e R s m args below meth c Q E ad dom H locs cells slots ls ⟨hR, tv_oks_c.mpr ⟨w_okL hL hi, hst⟩, hL, hS⟩
  have hv := tv_loc hS.1 hi
  exact lv_iload E.1 E.2.1 hd hv kk
theorem w_lload_n {i : Fin 4} {z : Int} (hd : decode M.1 pc = .ok (.lload_n i, 1)) (hp : pc + 1 = pc') (hi : L[(i : Nat)]? = some (some (xL z))) (k : tvW M d K pc' L (xL z :: st) G bc bs) : tvW M d K pc L st G bc bs := by
  intro O ad0 G0 p l e R s m args below meth c Q E ad dom H locs cells slots ls S
  obtain ⟨hR, hst, hL, hS⟩ := S
  subst hp
  have kk := k O ad0 G0 p l e R s m args below meth c Q E ad dom H locs cells slots ls ⟨hR, tv_oks_c.mpr ⟨w_okL hL hi, hst⟩, hL, hS⟩
  have hv := tv_loc hS.1 hi
  exact lv_lload_n E.1 E.2.1 hd rfl hv kk
theorem w_lload {i : Nat} {z : Int} (hd : decode M.1 pc = .ok (.lload i, 2)) (hp : pc + 2 = pc') (hi : L[i]? = some (some (xL z))) (k : tvW M d K pc' L (xL z :: st) G bc bs) : tvW M d K pc L st G bc bs := by
  intro O ad0 G0 p l e R s m args below meth c Q E ad dom H locs cells slots ls S
  obtain ⟨hR, hst, hL, hS⟩ := S
  subst hp
  have kk := k O ad0 G0 p l e R s m args below meth c Q E ad dom H locs cells slots ls ⟨hR, tv_oks_c.mpr ⟨w_okL hL hi, hst⟩, hL, hS⟩
  have hv := tv_loc hS.1 hi
  exact lv_lload E.1 E.2.1 hd hv kk
theorem w_aload_n {i : Fin 4} {r : Option Rl} (hd : decode M.1 pc = .ok (.aload_n i, 1)) (hp : pc + 1 = pc') (hi : L[(i : Nat)]? = some (some (xO r))) (k : tvW M d K pc' L (xO r :: st) G bc bs) : tvW M d K pc L st G bc bs := by
  intro O ad0 G0 p l e R s m args below meth c Q E ad dom H locs cells slots ls S
  obtain ⟨hR, hst, hL, hS⟩ := S
  subst hp
  have kk := k O ad0 G0 p l e R s m args below meth c Q E ad dom H locs cells slots ls ⟨hR, tv_oks_c.mpr ⟨w_okL hL hi, hst⟩, hL, hS⟩
  have hv := tv_loc hS.1 hi
  cases r with
  | none => exact lv_aload_nN E.1 E.2.1 hd rfl hv kk
  | some r => exact lv_aload_n E.1 E.2.1 hd rfl hv kk
theorem w_aload {i : Nat} {r : Option Rl} (hd : decode M.1 pc = .ok (.aload i, 2)) (hp : pc + 2 = pc') (hi : L[i]? = some (some (xO r))) (k : tvW M d K pc' L (xO r :: st) G bc bs) : tvW M d K pc L st G bc bs := by
  intro O ad0 G0 p l e R s m args below meth c Q E ad dom H locs cells slots ls S
  obtain ⟨hR, hst, hL, hS⟩ := S
  subst hp
  have kk := k O ad0 G0 p l e R s m args below meth c Q E ad dom H locs cells slots ls ⟨hR, tv_oks_c.mpr ⟨w_okL hL hi, hst⟩, hL, hS⟩
  have hv := tv_loc hS.1 hi
  cases r with
  | none => exact lv_aloadN E.1 E.2.1 hd hv kk
  | some r => exact lv_aload E.1 E.2.1 hd hv kk
def tv_kl : Option XV → Option XV
  | some (.inr (.inr _)) => none
  | x => x
def tv_st : List (Option XV) → Nat → XV → List (Option XV)
  | [], _, _ => []
  | _ :: L, 0, v => some v :: L
  | x :: L, 1, v => tv_kl x :: tv_st L 0 v
  | x :: L, n + 2, v => x :: tv_st L (n + 1) v
def tv_s2 : List (Option XV) → Nat → XV → List (Option XV)
  | [], _, _ => []
  | [x], _, _ => [x]
  | _ :: _ :: L, 0, v => some v :: none :: L
  | x :: L, 1, v => tv_kl x :: tv_s2 L 0 v
  | x :: L, n + 2, v => x :: tv_s2 L (n + 1) v
theorem tv_kl_s {x : Option XV} {u : XV} (h : tv_kl x = some u) : x = some u ∧ ∀ ad, (tv_e ad u).category ≠ 2 := by
  match x, h with
  | some (.inl z), h => cases h; exact ⟨rfl, fun ad => by simp [tv_e, Value.category]⟩
  | some (.inr (.inl none)), h => cases h; exact ⟨rfl, fun ad => by simp [tv_e, Value.category]⟩
  | some (.inr (.inl (some r))), h => cases h; exact ⟨rfl, fun ad => by simp [tv_e, Value.category]⟩
theorem tv_st_g : ∀ {L : List (Option XV)} {i k : Nat} {v u : XV}, (tv_st L i v)[k]? = some (some u) → (k = i ∧ u = v) ∨ (k ≠ i ∧ L[k]? = some (some u) ∧ ∀ ad, k + 1 = i → (tv_e ad u).category ≠ 2)
  | [], i, k, v, u, h => by simp [tv_st] at h
  | x :: L, 0, k, v, u, h => by
    cases k with
    | zero => simp [tv_st] at h; exact Or.inl ⟨rfl, h.symm⟩
    | succ k => simp [tv_st] at h; exact Or.inr ⟨by omega, by simpa using h, fun ad q => by omega⟩
  | x :: L, 1, k, v, u, h => by
    cases k with
    | zero =>
      have h : tv_kl x = some u := by simpa [tv_st] using h
      exact Or.inr ⟨by omega, by simp [(tv_kl_s h).1], fun ad _ => (tv_kl_s h).2 ad⟩
    | succ k =>
      have h : (tv_st L 0 v)[k]? = some (some u) := by simpa [tv_st] using h
      rcases tv_st_g h with ⟨h1, h2⟩ | ⟨h1, h2, h3⟩
      · exact Or.inl ⟨by omega, h2⟩
      · exact Or.inr ⟨by omega, by simpa using h2, fun ad q => by omega⟩
  | x :: L, n + 2, k, v, u, h => by
    cases k with
    | zero => simp [tv_st] at h; exact Or.inr ⟨by omega, by simpa using h, fun ad q => by omega⟩
    | succ k =>
      have h : (tv_st L (n + 1) v)[k]? = some (some u) := by simpa [tv_st] using h
      rcases tv_st_g h with ⟨h1, h2⟩ | ⟨h1, h2, h3⟩
      · exact Or.inl ⟨by omega, h2⟩
      · exact Or.inr ⟨by omega, by simpa using h2, fun ad q => h3 ad (by omega)⟩
theorem tv_s2_g : ∀ {L : List (Option XV)} {i k : Nat} {v u : XV}, i + 1 < L.length → (tv_s2 L i v)[k]? = some (some u) → (k = i ∧ u = v) ∨ (k ≠ i ∧ k ≠ i + 1 ∧ L[k]? = some (some u) ∧ ∀ ad, k + 1 = i → (tv_e ad u).category ≠ 2)
  | [], i, k, v, u, hl, h => by simp at hl
  | [x], i, k, v, u, hl, h => by simp at hl
  | x :: y :: L, 0, k, v, u, hl, h => by
    match k, h with
    | 0, h => simp [tv_s2] at h; exact Or.inl ⟨rfl, h.symm⟩
    | 1, h => simp [tv_s2] at h
    | k + 2, h => exact Or.inr ⟨by omega, by omega, by simpa [tv_s2] using h, fun ad q => by omega⟩
  | x :: y :: L, 1, k, v, u, hl, h => by
    cases k with
    | zero =>
      have h : tv_kl x = some u := by simpa [tv_s2] using h
      exact Or.inr ⟨by omega, by omega, by simp [(tv_kl_s h).1], fun ad _ => (tv_kl_s h).2 ad⟩
    | succ k =>
      have h : (tv_s2 (y :: L) 0 v)[k]? = some (some u) := by simpa [tv_s2] using h
      rcases tv_s2_g (by simp at hl ⊢; omega) h with ⟨h1, h2⟩ | ⟨h1, h0, h2, h3⟩
      · exact Or.inl ⟨by omega, h2⟩
      · exact Or.inr ⟨by omega, by omega, by simpa using h2, fun ad q => by omega⟩
  | x :: y :: L, n + 2, k, v, u, hl, h => by
    cases k with
    | zero => simp [tv_s2] at h; exact Or.inr ⟨by omega, by omega, by simpa using h, fun ad q => by omega⟩
    | succ k =>
      have h : (tv_s2 (y :: L) (n + 1) v)[k]? = some (some u) := by simpa [tv_s2] using h
      rcases tv_s2_g (by simp at hl ⊢; omega) h with ⟨h1, h2⟩ | ⟨h1, h0, h2, h3⟩
      · exact Or.inl ⟨by omega, h2⟩
      · exact Or.inr ⟨by omega, by omega, by simpa using h2, fun ad q => h3 ad (by omega)⟩
theorem tv_st_len : ∀ {L : List (Option XV)} {i : Nat} {v : XV}, (tv_st L i v).length = L.length
  | [], _, _ => rfl
  | _ :: L, 0, v => rfl
  | x :: L, 1, v => by simp [tv_st, tv_st_len (L := L)]
  | x :: L, n + 2, v => by simp [tv_st, tv_st_len (L := L)]
theorem tv_s2_len : ∀ {L : List (Option XV)} {i : Nat} {v : XV}, (tv_s2 L i v).length = L.length
  | [], _, _ => rfl
  | [x], _, _ => rfl
  | _ :: _ :: L, 0, v => rfl
  | x :: y :: L, 1, v => by simp [tv_s2, tv_s2_len (L := y :: L)]
  | x :: y :: L, n + 2, v => by simp [tv_s2, tv_s2_len (L := y :: L)]
/-- a store of one slot: which place it goes to -/
def tv_stI : Instr → XV → Option Nat
  | .istore_n i, .inl _ => some i
  | .istore i, .inl _ => some i
  | .astore_n i, .inr (.inl _) => some i
  | .astore i, .inr (.inl _) => some i
  | _, _ => none
theorem w_stG {ins : Instr} {n i : Nat} {v : XV} (hd : decode M.1 pc = .ok (ins, n)) (hi : tv_stI ins v = some i) (hn : n = 1 ∧ (∃ j, ins = .istore_n j ∨ ins = .astore_n j) ∨ n = 2 ∧ (∃ j, ins = .istore j ∨ ins = .astore j)) (hp : pc + n = pc') (hl : i < L.length) (hL' : tv_st L i v = L') (k : tvW M d K pc' L' st G bc bs) : tvW M d K pc L (v :: st) G bc bs := by
  intro O ad0 G0 p l e R s m args below meth c Q E ad dom H locs cells slots ls S
  obtain ⟨hR, hst, hL, hlv, hlen, hS⟩ := S
  subst hp
  subst hL'
  obtain ⟨h0, hst⟩ := tv_oks_c.mp hst
  have key : ∀ ls' : Array Slot, (∀ cv : (tv_e ad v).category = 1, lv_has ls' M.2.1 ((i, tv_e ad v) :: (tv_pr ad 0 L).filter (fun q => !(q.1 == i) && !(q.1 + 1 == i && q.2.category == 2)))) → (tv_e ad v).category = 1 → W p l e R s m args below meth c H locs cells slots Q (F0 m (pc + n) ls' (st.map (tv_e ad))) := by
    intro ls' hh hcv
    have hh := hh hcv
    refine k O ad0 G0 p l e R s m args below meth c Q E ad dom H locs cells slots ls' ⟨hR, hst, ?_, ⟨hh.1, hh.2.1, ?_⟩, by rw [tv_st_len]; exact hlen, hS⟩
    · intro u hu
      obtain ⟨q, hq⟩ := List.getElem?_of_mem hu
      rcases tv_st_g hq with ⟨h1, h2⟩ | ⟨h1, h2, h3⟩
      · rw [h2]; exact h0
      · exact w_okL hL h2
    · intro q hq
      obtain ⟨j, u, h1, h2⟩ := tv_pr_mem.mp hq
      subst h2
      rcases tv_st_g h1 with ⟨h1, h2⟩ | ⟨h1, h2, h3⟩
      · subst h1; subst h2
        simpa using hh.2.2 _ List.mem_cons_self
      · refine hh.2.2 _ (List.mem_cons_of_mem _ (List.mem_filter.mpr ⟨tv_pr_mem.mpr ⟨j, u, h2, rfl⟩, ?_⟩))
        have := h3 ad
        by_cases hj : j + 1 = i
        · have := this hj
          simp [h1, this]
        · simp [h1, hj]
  have hiM : i < M.2.1 := Nat.lt_of_lt_of_le hl hlen
  match v, ins, hi with
  | .inl z, .istore_n j, hi =>
    cases hi
    rcases hn with ⟨rfl, -⟩ | ⟨-, j', h | h⟩ <;> first | (cases h; done) | skip
    exact lv_istore_n E.1 E.2.1 hd rfl hlv hiM rfl (fun ls' h => key ls' (fun _ => h) rfl)
  | .inl z, .istore j, hi =>
    cases hi
    rcases hn with ⟨-, j', h | h⟩ | ⟨rfl, -⟩ <;> first | (cases h; done) | skip
    exact lv_istore E.1 E.2.1 hd hlv hiM rfl (fun ls' h => key ls' (fun _ => h) rfl)
  | .inr (.inl none), .astore_n j, hi =>
    cases hi
    rcases hn with ⟨rfl, -⟩ | ⟨-, j', h | h⟩ <;> first | (cases h; done) | skip
    exact lv_astore_nN E.1 E.2.1 hd rfl hlv hiM rfl (fun ls' h => key ls' (fun _ => h) rfl)
  | .inr (.inl (some r)), .astore_n j, hi =>
    cases hi
    rcases hn with ⟨rfl, -⟩ | ⟨-, j', h | h⟩ <;> first | (cases h; done) | skip
    exact lv_astore_n E.1 E.2.1 hd rfl hlv hiM rfl (fun ls' h => key ls' (fun _ => h) rfl)
  | .inr (.inl none), .astore j, hi =>
    cases hi
    rcases hn with ⟨-, j', h | h⟩ | ⟨rfl, -⟩ <;> first | (cases h; done) | skip
    exact lv_astoreN E.1 E.2.1 hd hlv hiM rfl (fun ls' h => key ls' (fun _ => h) rfl)
  | .inr (.inl (some r)), .astore j, hi =>
    cases hi
    rcases hn with ⟨-, j', h | h⟩ | ⟨rfl, -⟩ <;> first | (cases h; done) | skip
    exact lv_astore E.1 E.2.1 hd hlv hiM rfl (fun ls' h => key ls' (fun _ => h) rfl)
theorem w_lsG {ins : Instr} {n i : Nat} {z : Int} (hd : decode M.1 pc = .ok (ins, n)) (hn : (n = 1 ∧ ∃ j : Fin 4, ins = .lstore_n j ∧ (j : Nat) = i) ∨ (n = 2 ∧ ins = .lstore i)) (hp : pc + n = pc') (hl : i + 1 < L.length) (hL' : tv_s2 L i (xL z) = L') (k : tvW M d K pc' L' st G bc bs) : tvW M d K pc L (xL z :: st) G bc bs := by
  intro O ad0 G0 p l e R s m args below meth c Q E ad dom H locs cells slots ls S
  obtain ⟨hR, hst, hL, hlv, hlen, hS⟩ := S
  subst hp
  subst hL'
  obtain ⟨h0, hst⟩ := tv_oks_c.mp hst
  have key : ∀ ls' : Array Slot, lv_has ls' M.2.1 ((i, tv_e ad (xL z)) :: (tv_pr ad 0 L).filter (fun q => !(q.1 == i) && (!(q.1 == i + 1) && !(q.1 + 1 == i && q.2.category == 2)))) → W p l e R s m args below meth c H locs cells slots Q (F0 m (pc + n) ls' (st.map (tv_e ad))) := by
    intro ls' hh
    refine k O ad0 G0 p l e R s m args below meth c Q E ad dom H locs cells slots ls' ⟨hR, hst, ?_, ⟨hh.1, hh.2.1, ?_⟩, by rw [tv_s2_len]; exact hlen, hS⟩
    · intro u hu
      obtain ⟨q, hq⟩ := List.getElem?_of_mem hu
      rcases tv_s2_g hl hq with ⟨h1, h2⟩ | ⟨h1, -, h2, h3⟩
      · rw [h2]; exact h0
      · exact w_okL hL h2
    · intro q hq
      obtain ⟨j, u, h1, h2⟩ := tv_pr_mem.mp hq
      subst h2
      rcases tv_s2_g hl h1 with ⟨h1, h2⟩ | ⟨h1, h0, h2, h3⟩
      · subst h1; subst h2
        simpa using hh.2.2 _ List.mem_cons_self
      · refine hh.2.2 _ (List.mem_cons_of_mem _ (List.mem_filter.mpr ⟨tv_pr_mem.mpr ⟨j, u, h2, rfl⟩, ?_⟩))
        have := h3 ad
        by_cases hj : j + 1 = i
        · have := this hj
          simp [h1, h0, this]
        · simp [h1, h0, hj]
  have hiM : i + 1 < M.2.1 := Nat.lt_of_lt_of_le hl hlen
  rcases hn with ⟨rfl, j, rfl, rfl⟩ | ⟨rfl, rfl⟩
  · exact lv_lstore_n E.1 E.2.1 hd rfl hlv hiM rfl (fun ls' h => key ls' h)
  · exact lv_lstore E.1 E.2.1 hd hlv hiM rfl (fun ls' h => key ls' h)
theorem w_incG {i : Nat} {n z : Int} (hd : decode M.1 pc = .ok (.iinc i n, 3)) (hp : pc + 3 = pc') (hi : L[i]? = some (some (xI z))) (hr : rg (z + n)) (hL' : tv_st L i (xI (z + n)) = L') (k : tvW M d K pc' L' st G bc bs) : tvW M d K pc L st G bc bs := by
  intro O ad0 G0 p l e R s m args below meth c Q E ad dom H locs cells slots ls S
  obtain ⟨hR, hst, hL, hlv, hlen, hS⟩ := S
  subst hp
  subst hL'
  have hl : i < L.length := (List.getElem?_eq_some_iff.mp hi).1
  have hiM : i < M.2.1 := Nat.lt_of_lt_of_le hl hlen
  obtain ⟨kq, hkq⟩ := List.getElem?_of_mem (tv_pr_mem.mpr ⟨i, _, hi, rfl⟩ : (0 + i, tv_e ad (xI z)) ∈ tv_pr ad 0 L)
  rw [Nat.zero_add] at hkq
  refine lv_iinc (v := Int32.ofInt (z + n)) E.1 E.2.1 hd hlv hkq (by rw [Int32.ofInt_add]) hiM rfl (fun ls' hh => ?_)
  refine k O ad0 G0 p l e R s m args below meth c Q E ad dom H locs cells slots ls' ⟨hR, hst, ?_, ⟨hh.1, hh.2.1, ?_⟩, by rw [tv_st_len]; exact hlen, hS⟩
  · intro u hu
    obtain ⟨q, hq⟩ := List.getElem?_of_mem hu
    rcases tv_st_g hq with ⟨h1, h2⟩ | ⟨h1, h2, h3⟩
    · rw [h2]; exact hr
    · exact w_okL hL h2
  · intro q hq
    obtain ⟨j, u, h1, h2⟩ := tv_pr_mem.mp hq
    subst h2
    rcases tv_st_g h1 with ⟨h1, h2⟩ | ⟨h1, h2, h3⟩
    · subst h1; subst h2
      show ls'[0 + j]? = _
      rw [Nat.zero_add]
      exact hh.2.2 _ List.mem_cons_self
    · refine hh.2.2 _ (List.mem_cons_of_mem _ (List.mem_filter.mpr ⟨tv_pr_mem.mpr ⟨j, u, h2, rfl⟩, ?_⟩))
      have := h3 ad
      by_cases hj : j + 1 = i
      · have := this hj
        simp [h1, this]
      · simp [h1, hj]
theorem w_ist0 {x : Option XV} {z : Int} (hd : decode M.1 pc = .ok (.istore_n 0, 1)) (hp : pc + 1 = pc') (k : tvW M d K pc' (some (xI z) :: L) st G bc bs) : tvW M d K pc (x :: L) (xI z :: st) G bc bs := w_stG hd rfl (Or.inl ⟨rfl, 0, Or.inl rfl⟩) hp (by simp only [List.length_cons]; omega) (by rfl) k
theorem w_ast0 {x : Option XV} {r : Option Rl} (hd : decode M.1 pc = .ok (.astore_n 0, 1)) (hp : pc + 1 = pc') (k : tvW M d K pc' (some (xO r) :: L) st G bc bs) : tvW M d K pc (x :: L) (xO r :: st) G bc bs := w_stG hd rfl (Or.inl ⟨rfl, 0, Or.inr rfl⟩) hp (by simp only [List.length_cons]; omega) (by rfl) k
theorem w_inc0 {z n : Int} (hd : decode M.1 pc = .ok (.iinc 0 n, 3)) (hp : pc + 3 = pc') (hr : rg (z + n)) (k : tvW M d K pc' (some (xI (z + n)) :: L) st G bc bs) : tvW M d K pc (some (xI z) :: L) st G bc bs := w_incG hd hp rfl hr (by rfl) k
theorem w_lst0 {x y : Option XV} {z : Int} (hd : decode M.1 pc = .ok (.lstore_n 0, 1)) (hp : pc + 1 = pc') (k : tvW M d K pc' (some (xL z) :: none :: L) st G bc bs) : tvW M d K pc (x :: y :: L) (xL z :: st) G bc bs := w_lsG hd (Or.inl ⟨rfl, 0, rfl, rfl⟩) hp (by simp only [List.length_cons]; omega) (by rfl) k
theorem w_ist1 {a0 x : Option XV} {z : Int} (hd : decode M.1 pc = .ok (.istore_n 1, 1)) (hp : pc + 1 = pc') (hx : tv_kl a0 = a0) (k : tvW M d K pc' (a0 :: some (xI z) :: L) st G bc bs) : tvW M d K pc (a0 :: x :: L) (xI z :: st) G bc bs := w_stG hd rfl (Or.inl ⟨rfl, 1, Or.inl rfl⟩) hp (by simp only [List.length_cons]; omega) (by simp [tv_st, hx]) k
theorem w_isk1 {a0 x : Option XV} {z : Int} {q : Int} (hd : decode M.1 pc = .ok (.istore_n 1, 1)) (hp : pc + 1 = pc') (hx : a0 = some (xL q)) (k : tvW M d K pc' (none :: some (xI z) :: L) st G bc bs) : tvW M d K pc (a0 :: x :: L) (xI z :: st) G bc bs := by subst hx; exact w_stG hd rfl (Or.inl ⟨rfl, 1, Or.inl rfl⟩) hp (by simp only [List.length_cons]; omega) (by simp [tv_st, tv_kl]) k
theorem w_ast1 {a0 x : Option XV} {r : Option Rl} (hd : decode M.1 pc = .ok (.astore_n 1, 1)) (hp : pc + 1 = pc') (hx : tv_kl a0 = a0) (k : tvW M d K pc' (a0 :: some (xO r) :: L) st G bc bs) : tvW M d K pc (a0 :: x :: L) (xO r :: st) G bc bs := w_stG hd rfl (Or.inl ⟨rfl, 1, Or.inr rfl⟩) hp (by simp only [List.length_cons]; omega) (by simp [tv_st, hx]) k
theorem w_ask1 {a0 x : Option XV} {r : Option Rl} {q : Int} (hd : decode M.1 pc = .ok (.astore_n 1, 1)) (hp : pc + 1 = pc') (hx : a0 = some (xL q)) (k : tvW M d K pc' (none :: some (xO r) :: L) st G bc bs) : tvW M d K pc (a0 :: x :: L) (xO r :: st) G bc bs := by subst hx; exact w_stG hd rfl (Or.inl ⟨rfl, 1, Or.inr rfl⟩) hp (by simp only [List.length_cons]; omega) (by simp [tv_st, tv_kl]) k
theorem w_inc1 {a0 : Option XV} {z n : Int} (hd : decode M.1 pc = .ok (.iinc 1 n, 3)) (hp : pc + 3 = pc') (hx : tv_kl a0 = a0) (hr : rg (z + n)) (k : tvW M d K pc' (a0 :: some (xI (z + n)) :: L) st G bc bs) : tvW M d K pc (a0 :: some (xI z) :: L) st G bc bs := w_incG hd hp rfl hr (by simp [tv_st, hx]) k
theorem w_lst1 {a0 x y : Option XV} {z : Int} (hd : decode M.1 pc = .ok (.lstore_n 1, 1)) (hp : pc + 1 = pc') (hx : tv_kl a0 = a0) (k : tvW M d K pc' (a0 :: some (xL z) :: none :: L) st G bc bs) : tvW M d K pc (a0 :: x :: y :: L) (xL z :: st) G bc bs := w_lsG hd (Or.inl ⟨rfl, 1, rfl, rfl⟩) hp (by simp only [List.length_cons]; omega) (by simp [tv_s2, hx]) k
theorem w_ist2 {a0 a1 x : Option XV} {z : Int} (hd : decode M.1 pc = .ok (.istore_n 2, 1)) (hp : pc + 1 = pc') (hx : tv_kl a1 = a1) (k : tvW M d K pc' (a0 :: a1 :: some (xI z) :: L) st G bc bs) : tvW M d K pc (a0 :: a1 :: x :: L) (xI z :: st) G bc bs := w_stG hd rfl (Or.inl ⟨rfl, 2, Or.inl rfl⟩) hp (by simp only [List.length_cons]; omega) (by simp [tv_st, hx]) k
theorem w_isk2 {a0 a1 x : Option XV} {z : Int} {q : Int} (hd : decode M.1 pc = .ok (.istore_n 2, 1)) (hp : pc + 1 = pc') (hx : a1 = some (xL q)) (k : tvW M d K pc' (a0 :: none :: some (xI z) :: L) st G bc bs) : tvW M d K pc (a0 :: a1 :: x :: L) (xI z :: st) G bc bs := by subst hx; exact w_stG hd rfl (Or.inl ⟨rfl, 2, Or.inl rfl⟩) hp (by simp only [List.length_cons]; omega) (by simp [tv_st, tv_kl]) k
theorem w_ast2 {a0 a1 x : Option XV} {r : Option Rl} (hd : decode M.1 pc = .ok (.astore_n 2, 1)) (hp : pc + 1 = pc') (hx : tv_kl a1 = a1) (k : tvW M d K pc' (a0 :: a1 :: some (xO r) :: L) st G bc bs) : tvW M d K pc (a0 :: a1 :: x :: L) (xO r :: st) G bc bs := w_stG hd rfl (Or.inl ⟨rfl, 2, Or.inr rfl⟩) hp (by simp only [List.length_cons]; omega) (by simp [tv_st, hx]) k
theorem w_ask2 {a0 a1 x : Option XV} {r : Option Rl} {q : Int} (hd : decode M.1 pc = .ok (.astore_n 2, 1)) (hp : pc + 1 = pc') (hx : a1 = some (xL q)) (k : tvW M d K pc' (a0 :: none :: some (xO r) :: L) st G bc bs) : tvW M d K pc (a0 :: a1 :: x :: L) (xO r :: st) G bc bs := by subst hx; exact w_stG hd rfl (Or.inl ⟨rfl, 2, Or.inr rfl⟩) hp (by simp only [List.length_cons]; omega) (by simp [tv_st, tv_kl]) k
theorem w_inc2 {a0 a1 : Option XV} {z n : Int} (hd : decode M.1 pc = .ok (.iinc 2 n, 3)) (hp : pc + 3 = pc') (hx : tv_kl a1 = a1) (hr : rg (z + n)) (k : tvW M d K pc' (a0 :: a1 :: some (xI (z + n)) :: L) st G bc bs) : tvW M d K pc (a0 :: a1 :: some (xI z) :: L) st G bc bs := w_incG hd hp rfl hr (by simp [tv_st, hx]) k
theorem w_lst2 {a0 a1 x y : Option XV} {z : Int} (hd : decode M.1 pc = .ok (.lstore_n 2, 1)) (hp : pc + 1 = pc') (hx : tv_kl a1 = a1) (k : tvW M d K pc' (a0 :: a1 :: some (xL z) :: none :: L) st G bc bs) : tvW M d K pc (a0 :: a1 :: x :: y :: L) (xL z :: st) G bc bs := w_lsG hd (Or.inl ⟨rfl, 2, rfl, rfl⟩) hp (by simp only [List.length_cons]; omega) (by simp [tv_s2, hx]) k
theorem w_ist3 {a0 a1 a2 x : Option XV} {z : Int} (hd : decode M.1 pc = .ok (.istore_n 3, 1)) (hp : pc + 1 = pc') (hx : tv_kl a2 = a2) (k : tvW M d K pc' (a0 :: a1 :: a2 :: some (xI z) :: L) st G bc bs) : tvW M d K pc (a0 :: a1 :: a2 :: x :: L) (xI z :: st) G bc bs := w_stG hd rfl (Or.inl ⟨rfl, 3, Or.inl rfl⟩) hp (by simp only [List.length_cons]; omega) (by simp [tv_st, hx]) k
theorem w_isk3 {a0 a1 a2 x : Option XV} {z : Int} {q : Int} (hd : decode M.1 pc = .ok (.istore_n 3, 1)) (hp : pc + 1 = pc') (hx : a2 = some (xL q)) (k : tvW M d K pc' (a0 :: a1 :: none :: some (xI z) :: L) st G bc bs) : tvW M d K pc (a0 :: a1 :: a2 :: x :: L) (xI z :: st) G bc bs := by subst hx; exact w_stG hd rfl (Or.inl ⟨rfl, 3, Or.inl rfl⟩) hp (by simp only [List.length_cons]; omega) (by simp [tv_st, tv_kl]) k
theorem w_ast3 {a0 a1 a2 x : Option XV} {r : Option Rl} (hd : decode M.1 pc = .ok (.astore_n 3, 1)) (hp : pc + 1 = pc') (hx : tv_kl a2 = a2) (k : tvW M d K pc' (a0 :: a1 :: a2 :: some (xO r) :: L) st G bc bs) : tvW M d K pc (a0 :: a1 :: a2 :: x :: L) (xO r :: st) G bc bs := w_stG hd rfl (Or.inl ⟨rfl, 3, Or.inr rfl⟩) hp (by simp only [List.length_cons]; omega) (by simp [tv_st, hx]) k
theorem w_ask3 {a0 a1 a2 x : Option XV} {r : Option Rl} {q : Int} (hd : decode M.1 pc = .ok (.astore_n 3, 1)) (hp : pc + 1 = pc') (hx : a2 = some (xL q)) (k : tvW M d K pc' (a0 :: a1 :: none :: some (xO r) :: L) st G bc bs) : tvW M d K pc (a0 :: a1 :: a2 :: x :: L) (xO r :: st) G bc bs := by subst hx; exact w_stG hd rfl (Or.inl ⟨rfl, 3, Or.inr rfl⟩) hp (by simp only [List.length_cons]; omega) (by simp [tv_st, tv_kl]) k
theorem w_inc3 {a0 a1 a2 : Option XV} {z n : Int} (hd : decode M.1 pc = .ok (.iinc 3 n, 3)) (hp : pc + 3 = pc') (hx : tv_kl a2 = a2) (hr : rg (z + n)) (k : tvW M d K pc' (a0 :: a1 :: a2 :: some (xI (z + n)) :: L) st G bc bs) : tvW M d K pc (a0 :: a1 :: a2 :: some (xI z) :: L) st G bc bs := w_incG hd hp rfl hr (by simp [tv_st, hx]) k
theorem w_lst3 {a0 a1 a2 x y : Option XV} {z : Int} (hd : decode M.1 pc = .ok (.lstore_n 3, 1)) (hp : pc + 1 = pc') (hx : tv_kl a2 = a2) (k : tvW M d K pc' (a0 :: a1 :: a2 :: some (xL z) :: none :: L) st G bc bs) : tvW M d K pc (a0 :: a1 :: a2 :: x :: y :: L) (xL z :: st) G bc bs := w_lsG hd (Or.inl ⟨rfl, 3, rfl, rfl⟩) hp (by simp only [List.length_cons]; omega) (by simp [tv_s2, hx]) k
theorem w_ist4 {a0 a1 a2 a3 x : Option XV} {z : Int} (hd : decode M.1 pc = .ok (.istore 4, 2)) (hp : pc + 2 = pc') (hx : tv_kl a3 = a3) (k : tvW M d K pc' (a0 :: a1 :: a2 :: a3 :: some (xI z) :: L) st G bc bs) : tvW M d K pc (a0 :: a1 :: a2 :: a3 :: x :: L) (xI z :: st) G bc bs := w_stG hd rfl (Or.inr ⟨rfl, 4, Or.inl rfl⟩) hp (by simp only [List.length_cons]; omega) (by simp [tv_st, hx]) k
theorem w_isk4 {a0 a1 a2 a3 x : Option XV} {z : Int} {q : Int} (hd : decode M.1 pc = .ok (.istore 4, 2)) (hp : pc + 2 = pc') (hx : a3 = some (xL q)) (k : tvW M d K pc' (a0 :: a1 :: a2 :: none :: some (xI z) :: L) st G bc bs) : tvW M d K pc (a0 :: a1 :: a2 :: a3 :: x :: L) (xI z :: st) G bc bs := by subst hx; exact w_stG hd rfl (Or.inr ⟨rfl, 4, Or.inl rfl⟩) hp (by simp only [List.length_cons]; omega) (by simp [tv_st, tv_kl]) k
theorem w_ast4 {a0 a1 a2 a3 x : Option XV} {r : Option Rl} (hd : decode M.1 pc = .ok (.astore 4, 2)) (hp : pc + 2 = pc') (hx : tv_kl a3 = a3) (k : tvW M d K pc' (a0 :: a1 :: a2 :: a3 :: some (xO r) :: L) st G bc bs) : tvW M d K pc (a0 :: a1 :: a2 :: a3 :: x :: L) (xO r :: st) G bc bs := w_stG hd rfl (Or.inr ⟨rfl, 4, Or.inr rfl⟩) hp (by simp only [List.length_cons]; omega) (by simp [tv_st, hx]) k
theorem w_ask4 {a0 a1 a2 a3 x : Option XV} {r : Option Rl} {q : Int} (hd : decode M.1 pc = .ok (.astore 4, 2)) (hp : pc + 2 = pc') (hx : a3 = some (xL q)) (k : tvW M d K pc' (a0 :: a1 :: a2 :: none :: some (xO r) :: L) st G bc bs) : tvW M d K pc (a0 :: a1 :: a2 :: a3 :: x :: L) (xO r :: st) G bc bs := by subst hx; exact w_stG hd rfl (Or.inr ⟨rfl, 4, Or.inr rfl⟩) hp (by simp only [List.length_cons]; omega) (by simp [tv_st, tv_kl]) k
theorem w_inc4 {a0 a1 a2 a3 : Option XV} {z n : Int} (hd : decode M.1 pc = .ok (.iinc 4 n, 3)) (hp : pc + 3 = pc') (hx : tv_kl a3 = a3) (hr : rg (z + n)) (k : tvW M d K pc' (a0 :: a1 :: a2 :: a3 :: some (xI (z + n)) :: L) st G bc bs) : tvW M d K pc (a0 :: a1 :: a2 :: a3 :: some (xI z) :: L) st G bc bs := w_incG hd hp rfl hr (by simp [tv_st, hx]) k
theorem w_lst4 {a0 a1 a2 a3 x y : Option XV} {z : Int} (hd : decode M.1 pc = .ok (.lstore 4, 2)) (hp : pc + 2 = pc') (hx : tv_kl a3 = a3) (k : tvW M d K pc' (a0 :: a1 :: a2 :: a3 :: some (xL z) :: none :: L) st G bc bs) : tvW M d K pc (a0 :: a1 :: a2 :: a3 :: x :: y :: L) (xL z :: st) G bc bs := w_lsG hd (Or.inr ⟨rfl, rfl⟩) hp (by simp only [List.length_cons]; omega) (by simp [tv_s2, hx]) k
theorem w_ist5 {a0 a1 a2 a3 a4 x : Option XV} {z : Int} (hd : decode M.1 pc = .ok (.istore 5, 2)) (hp : pc + 2 = pc') (hx : tv_kl a4 = a4) (k : tvW M d K pc' (a0 :: a1 :: a2 :: a3 :: a4 :: some (xI z) :: L) st G bc bs) : tvW M d K pc (a0 :: a1 :: a2 :: a3 :: a4 :: x :: L) (xI z :: st) G bc bs := w_stG hd rfl (Or.inr ⟨rfl, 5, Or.inl rfl⟩) hp (by simp only [List.length_cons]; omega) (by simp [tv_st, hx]) k
theorem w_isk5 {a0 a1 a2 a3 a4 x : Option XV} {z : Int} {q : Int} (hd : decode M.1 pc = .ok (.istore 5, 2)) (hp : pc + 2 = pc') (hx : a4 = some (xL q)) (k : tvW M d K pc' (a0 :: a1 :: a2 :: a3 :: none :: some (xI z) :: L) st G bc bs) : tvW M d K pc (a0 :: a1 :: a2 :: a3 :: a4 :: x :: L) (xI z :: st) G bc bs := by subst hx; exact w_stG hd rfl (Or.inr ⟨rfl, 5, Or.inl rfl⟩) hp (by simp only [List.length_cons]; omega) (by simp [tv_st, tv_kl]) k
theorem w_ast5 {a0 a1 a2 a3 a4 x : Option XV} {r : Option Rl} (hd : decode M.1 pc = .ok (.astore 5, 2)) (hp : pc + 2 = pc') (hx : tv_kl a4 = a4) (k : tvW M d K pc' (a0 :: a1 :: a2 :: a3 :: a4 :: some (xO r) :: L) st G bc bs) : tvW M d K pc (a0 :: a1 :: a2 :: a3 :: a4 :: x :: L) (xO r :: st) G bc bs := w_stG hd rfl (Or.inr ⟨rfl, 5, Or.inr rfl⟩) hp (by simp only [List.length_cons]; omega) (by simp [tv_st, hx]) k
theorem w_ask5 {a0 a1 a2 a3 a4 x : Option XV} {r : Option Rl} {q : Int} (hd : decode M.1 pc = .ok (.astore 5, 2)) (hp : pc + 2 = pc') (hx : a4 = some (xL q)) (k : tvW M d K pc' (a0 :: a1 :: a2 :: a3 :: none :: some (xO r) :: L) st G bc bs) : tvW M d K pc (a0 :: a1 :: a2 :: a3 :: a4 :: x :: L) (xO r :: st) G bc bs := by subst hx; exact w_stG hd rfl (Or.inr ⟨rfl, 5, Or.inr rfl⟩) hp (by simp only [List.length_cons]; omega) (by simp [tv_st, tv_kl]) k
theorem w_inc5 {a0 a1 a2 a3 a4 : Option XV} {z n : Int} (hd : decode M.1 pc = .ok (.iinc 5 n, 3)) (hp : pc + 3 = pc') (hx : tv_kl a4 = a4) (hr : rg (z + n)) (k : tvW M d K pc' (a0 :: a1 :: a2 :: a3 :: a4 :: some (xI (z + n)) :: L) st G bc bs) : tvW M d K pc (a0 :: a1 :: a2 :: a3 :: a4 :: some (xI z) :: L) st G bc bs := w_incG hd hp rfl hr (by simp [tv_st, hx]) k
theorem w_lst5 {a0 a1 a2 a3 a4 x y : Option XV} {z : Int} (hd : decode M.1 pc = .ok (.lstore 5, 2)) (hp : pc + 2 = pc') (hx : tv_kl a4 = a4) (k : tvW M d K pc' (a0 :: a1 :: a2 :: a3 :: a4 :: some (xL z) :: none :: L) st G bc bs) : tvW M d K pc (a0 :: a1 :: a2 :: a3 :: a4 :: x :: y :: L) (xL z :: st) G bc bs := w_lsG hd (Or.inr ⟨rfl, rfl⟩) hp (by simp only [List.length_cons]; omega) (by simp [tv_s2, hx]) k
theorem w_ist6 {a0 a1 a2 a3 a4 a5 x : Option XV} {z : Int} (hd : decode M.1 pc = .ok (.istore 6, 2)) (hp : pc + 2 = pc') (hx : tv_kl a5 = a5) (k : tvW M d K pc' (a0 :: a1 :: a2 :: a3 :: a4 :: a5 :: some (xI z) :: L) st G bc bs) : tvW M d K pc (a0 :: a1 :: a2 :: a3 :: a4 :: a5 :: x :: L) (xI z :: st) G bc bs := w_stG hd rfl (Or.inr ⟨rfl, 6, Or.inl rfl⟩) hp (by simp only [List.length_cons]; omega) (by simp [tv_st, hx]) k
theorem w_isk6 {a0 a1 a2 a3 a4 a5 x : Option XV} {z : Int} {q : Int} (hd : decode M.1 pc = .ok (.istore 6, 2)) (hp : pc + 2 = pc') (hx : a5 = some (xL q)) (k : tvW M d K pc' (a0 :: a1 :: a2 :: a3 :: a4 :: none :: some (xI z) :: L) st G bc bs) : tvW M d K pc (a0 :: a1 :: a2 :: a3 :: a4 :: a5 :: x :: L) (xI z :: st) G bc bs := by subst hx; exact w_stG hd rfl (Or.inr ⟨rfl, 6, Or.inl rfl⟩) hp (by simp only [List.length_cons]; omega) (by simp [tv_st, tv_kl]) k
theorem w_ast6 {a0 a1 a2 a3 a4 a5 x : Option XV} {r : Option Rl} (hd : decode M.1 pc = .ok (.astore 6, 2)) (hp : pc + 2 = pc') (hx : tv_kl a5 = a5) (k : tvW M d K pc' (a0 :: a1 :: a2 :: a3 :: a4 :: a5 :: some (xO r) :: L) st G bc bs) : tvW M d K pc (a0 :: a1 :: a2 :: a3 :: a4 :: a5 :: x :: L) (xO r :: st) G bc bs := w_stG hd rfl (Or.inr ⟨rfl, 6, Or.inr rfl⟩) hp (by simp only [List.length_cons]; omega) (by simp [tv_st, hx]) k
theorem w_ask6 {a0 a1 a2 a3 a4 a5 x : Option XV} {r : Option Rl} {q : Int} (hd : decode M.1 pc = .ok (.astore 6, 2)) (hp : pc + 2 = pc') (hx : a5 = some (xL q)) (k : tvW M d K pc' (a0 :: a1 :: a2 :: a3 :: a4 :: none :: some (xO r) :: L) st G bc bs) : tvW M d K pc (a0 :: a1 :: a2 :: a3 :: a4 :: a5 :: x :: L) (xO r :: st) G bc bs := by subst hx; exact w_stG hd rfl (Or.inr ⟨rfl, 6, Or.inr rfl⟩) hp (by simp only [List.length_cons]; omega) (by simp [tv_st, tv_kl]) k
theorem w_inc6 {a0 a1 a2 a3 a4 a5 : Option XV} {z n : Int} (hd : decode M.1 pc = .ok (.iinc 6 n, 3)) (hp : pc + 3 = pc') (hx : tv_kl a5 = a5) (hr : rg (z + n)) (k : tvW M d K pc' (a0 :: a1 :: a2 :: a3 :: a4 :: a5 :: some (xI (z + n)) :: L) st G bc bs) : tvW M d K pc (a0 :: a1 :: a2 :: a3 :: a4 :: a5 :: some (xI z) :: L) st G bc bs := w_incG hd hp rfl hr (by simp [tv_st, hx]) k
theorem w_lst6 {a0 a1 a2 a3 a4 a5 x y : Option XV} {z : Int} (hd : decode M.1 pc = .ok (.lstore 6, 2)) (hp : pc + 2 = pc') (hx : tv_kl a5 = a5) (k : tvW M d K pc' (a0 :: a1 :: a2 :: a3 :: a4 :: a5 :: some (xL z) :: none :: L) st G bc bs) : tvW M d K pc (a0 :: a1 :: a2 :: a3 :: a4 :: a5 :: x :: y :: L) (xL z :: st) G bc bs := w_lsG hd (Or.inr ⟨rfl, rfl⟩) hp (by simp only [List.length_cons]; omega) (by simp [tv_s2, hx]) k
theorem w_ist7 {a0 a1 a2 a3 a4 a5 a6 x : Option XV} {z : Int} (hd : decode M.1 pc = .ok (.istore 7, 2)) (hp : pc + 2 = pc') (hx : tv_kl a6 = a6) (k : tvW M d K pc' (a0 :: a1 :: a2 :: a3 :: a4 :: a5 :: a6 :: some (xI z) :: L) st G bc bs) : tvW M d K pc (a0 :: a1 :: a2 :: a3 :: a4 :: a5 :: a6 :: x :: L) (xI z :: st) G bc bs := w_stG hd rfl (Or.inr ⟨rfl, 7, Or.inl rfl⟩) hp (by simp only [List.length_cons]; omega) (by simp [tv_st, hx]) k
theorem w_isk7 {a0 a1 a2 a3 a4 a5 a6 x : Option XV} {z : Int} {q : Int} (hd : decode M.1 pc = .ok (.istore 7, 2)) (hp : pc + 2 = pc') (hx : a6 = some (xL q)) (k : tvW M d K pc' (a0 :: a1 :: a2 :: a3 :: a4 :: a5 :: none :: some (xI z) :: L) st G bc bs) : tvW M d K pc (a0 :: a1 :: a2 :: a3 :: a4 :: a5 :: a6 :: x :: L) (xI z :: st) G bc bs := by subst hx; exact w_stG hd rfl (Or.inr ⟨rfl, 7, Or.inl rfl⟩) hp (by simp only [List.length_cons]; omega) (by simp [tv_st, tv_kl]) k
theorem w_ast7 {a0 a1 a2 a3 a4 a5 a6 x : Option XV} {r : Option Rl} (hd : decode M.1 pc = .ok (.astore 7, 2)) (hp : pc + 2 = pc') (hx : tv_kl a6 = a6) (k : tvW M d K pc' (a0 :: a1 :: a2 :: a3 :: a4 :: a5 :: a6 :: some (xO r) :: L) st G bc bs) : tvW M d K pc (a0 :: a1 :: a2 :: a3 :: a4 :: a5 :: a6 :: x :: L) (xO r :: st) G bc bs := w_stG hd rfl (Or.inr ⟨rfl, 7, Or.inr rfl⟩) hp (by simp only [List.length_cons]; omega) (by simp [tv_st, hx]) k
theorem w_ask7 {a0 a1 a2 a3 a4 a5 a6 x : Option XV} {r : Option Rl} {q : Int} (hd : decode M.1 pc = .ok (.astore 7, 2)) (hp : pc + 2 = pc') (hx : a6 = some (xL q)) (k : tvW M d K pc' (a0 :: a1 :: a2 :: a3 :: a4 :: a5 :: none :: some (xO r) :: L) st G bc bs) : tvW M d K pc (a0 :: a1 :: a2 :: a3 :: a4 :: a5 :: a6 :: x :: L) (xO r :: st) G bc bs := by subst hx; exact w_stG hd rfl (Or.inr ⟨rfl, 7, Or.inr rfl⟩) hp (by simp only [List.length_cons]; omega) (by simp [tv_st, tv_kl]) k
theorem w_inc7 {a0 a1 a2 a3 a4 a5 a6 : Option XV} {z n : Int} (hd : decode M.1 pc = .ok (.iinc 7 n, 3)) (hp : pc + 3 = pc') (hx : tv_kl a6 = a6) (hr : rg (z + n)) (k : tvW M d K pc' (a0 :: a1 :: a2 :: a3 :: a4 :: a5 :: a6 :: some (xI (z + n)) :: L) st G bc bs) : tvW M d K pc (a0 :: a1 :: a2 :: a3 :: a4 :: a5 :: a6 :: some (xI z) :: L) st G bc bs := w_incG hd hp rfl hr (by simp [tv_st, hx]) k
theorem w_lst7 {a0 a1 a2 a3 a4 a5 a6 x y : Option XV} {z : Int} (hd : decode M.1 pc = .ok (.lstore 7, 2)) (hp : pc + 2 = pc') (hx : tv_kl a6 = a6) (k : tvW M d K pc' (a0 :: a1 :: a2 :: a3 :: a4 :: a5 :: a6 :: some (xL z) :: none :: L) st G bc bs) : tvW M d K pc (a0 :: a1 :: a2 :: a3 :: a4 :: a5 :: a6 :: x :: y :: L) (xL z :: st) G bc bs := w_lsG hd (Or.inr ⟨rfl, rfl⟩) hp (by simp only [List.length_cons]; omega) (by simp [tv_s2, hx]) k
theorem w_ist8 {a0 a1 a2 a3 a4 a5 a6 a7 x : Option XV} {z : Int} (hd : decode M.1 pc = .ok (.istore 8, 2)) (hp : pc + 2 = pc') (hx : tv_kl a7 = a7) (k : tvW M d K pc' (a0 :: a1 :: a2 :: a3 :: a4 :: a5 :: a6 :: a7 :: some (xI z) :: L) st G bc bs) : tvW M d K pc (a0 :: a1 :: a2 :: a3 :: a4 :: a5 :: a6 :: a7 :: x :: L) (xI z :: st) G bc bs := w_stG hd rfl (Or.inr ⟨rfl, 8, Or.inl rfl⟩) hp (by simp only [List.length_cons]; omega) (by simp [tv_st, hx]) k
theorem w_isk8 {a0 a1 a2 a3 a4 a5 a6 a7 x : Option XV} {z : Int} {q : Int} (hd : decode M.1 pc = .ok (.istore 8, 2)) (hp : pc + 2 = pc') (hx : a7 = some (xL q)) (k : tvW M d K pc' (a0 :: a1 :: a2 :: a3 :: a4 :: a5 :: a6 :: none :: some (xI z) :: L) st G bc bs) : tvW M d K pc (a0 :: a1 :: a2 :: a3 :: a4 :: a5 :: a6 :: a7 :: x :: L) (xI z :: st) G bc bs := by subst hx; exact w_stG hd rfl (Or.inr ⟨rfl, 8, Or.inl rfl⟩) hp (by simp only [List.length_cons]; omega) (by simp [tv_st, tv_kl]) k
theorem w_ast8 {a0 a1 a2 a3 a4 a5 a6 a7 x : Option XV} {r : Option Rl} (hd : decode M.1 pc = .ok (.astore 8, 2)) (hp : pc + 2 = pc') (hx : tv_kl a7 = a7) (k : tvW M d K pc' (a0 :: a1 :: a2 :: a3 :: a4 :: a5 :: a6 :: a7 :: some (xO r) :: L) st G bc bs) : tvW M d K pc (a0 :: a1 :: a2 :: a3 :: a4 :: a5 :: a6 :: a7 :: x :: L) (xO r :: st) G bc bs := w_stG hd rfl (Or.inr ⟨rfl, 8, Or.inr rfl⟩) hp (by simp only [List.length_cons]; omega) (by simp [tv_st, hx]) k
theorem w_ask8 {a0 a1 a2 a3 a4 a5 a6 a7 x : Option XV} {r : Option Rl} {q : Int} (hd : decode M.1 pc = .ok (.astore 8, 2)) (hp : pc + 2 = pc') (hx : a7 = some (xL q)) (k : tvW M d K pc' (a0 :: a1 :: a2 :: a3 :: a4 :: a5 :: a6 :: none :: some (xO r) :: L) st G bc bs) : tvW M d K pc (a0 :: a1 :: a2 :: a3 :: a4 :: a5 :: a6 :: a7 :: x :: L) (xO r :: st) G bc bs := by subst hx; exact w_stG hd rfl (Or.inr ⟨rfl, 8, Or.inr rfl⟩) hp (by simp only [List.length_cons]; omega) (by simp [tv_st, tv_kl]) k
theorem w_inc8 {a0 a1 a2 a3 a4 a5 a6 a7 : Option XV} {z n : Int} (hd : decode M.1 pc = .ok (.iinc 8 n, 3)) (hp : pc + 3 = pc') (hx : tv_kl a7 = a7) (hr : rg (z + n)) (k : tvW M d K pc' (a0 :: a1 :: a2 :: a3 :: a4 :: a5 :: a6 :: a7 :: some (xI (z + n)) :: L) st G bc bs) : tvW M d K pc (a0 :: a1 :: a2 :: a3 :: a4 :: a5 :: a6 :: a7 :: some (xI z) :: L) st G bc bs := w_incG hd hp rfl hr (by simp [tv_st, hx]) k
theorem w_lst8 {a0 a1 a2 a3 a4 a5 a6 a7 x y : Option XV} {z : Int} (hd : decode M.1 pc = .ok (.lstore 8, 2)) (hp : pc + 2 = pc') (hx : tv_kl a7 = a7) (k : tvW M d K pc' (a0 :: a1 :: a2 :: a3 :: a4 :: a5 :: a6 :: a7 :: some (xL z) :: none :: L) st G bc bs) : tvW M d K pc (a0 :: a1 :: a2 :: a3 :: a4 :: a5 :: a6 :: a7 :: x :: y :: L) (xL z :: st) G bc bs := w_lsG hd (Or.inr ⟨rfl, rfl⟩) hp (by simp only [List.length_cons]; omega) (by simp [tv_s2, hx]) k
theorem w_ist9 {a0 a1 a2 a3 a4 a5 a6 a7 a8 x : Option XV} {z : Int} (hd : decode M.1 pc = .ok (.istore 9, 2)) (hp : pc + 2 = pc') (hx : tv_kl a8 = a8) (k : tvW M d K pc' (a0 :: a1 :: a2 :: a3 :: a4 :: a5 :: a6 :: a7 :: a8 :: some (xI z) :: L) st G bc bs) : tvW M d K pc (a0 :: a1 :: a2 :: a3 :: a4 :: a5 :: a6 :: a7 :: a8 :: x :: L) (xI z :: st) G bc bs := w_stG hd rfl (Or.inr ⟨rfl, 9, Or.inl rfl⟩) hp (by simp only [List.length_cons]; omega) (by simp [tv_st, hx]) k
theorem w_isk9 {a0 a1 a2 a3 a4 a5 a6 a7 a8 x : Option XV} {z : Int} {q : Int} (hd : decode M.1 pc = .ok (.istore 9, 2)) (hp : pc + 2 = pc') (hx : a8 = some (xL q)) (k : tvW M d K pc' (a0 :: a1 :: a2 :: a3 :: a4 :: a5 :: a6 :: a7 :: none :: some (xI z) :: L) st G bc bs) : tvW M d K pc (a0 :: a1 :: a2 :: a3 :: a4 :: a5 :: a6 :: a7 :: a8 :: x :: L) (xI z :: st) G bc bs := by subst hx; exact w_stG hd rfl (Or.inr ⟨rfl, 9, Or.inl rfl⟩) hp (by simp only [List.length_cons]; omega) (by simp [tv_st, tv_kl]) k
theorem w_ast9 {a0 a1 a2 a3 a4 a5 a6 a7 a8 x : Option XV} {r : Option Rl} (hd : decode M.1 pc = .ok (.astore 9, 2)) (hp : pc + 2 = pc') (hx : tv_kl a8 = a8) (k : tvW M d K pc' (a0 :: a1 :: a2 :: a3 :: a4 :: a5 :: a6 :: a7 :: a8 :: some (xO r) :: L) st G bc bs) : tvW M d K pc (a0 :: a1 :: a2 :: a3 :: a4 :: a5 :: a6 :: a7 :: a8 :: x :: L) (xO r :: st) G bc bs := w_stG hd rfl (Or.inr ⟨rfl, 9, Or.inr rfl⟩) hp (by simp only [List.length_cons]; omega) (by simp [tv_st, hx]) k
theorem w_ask9 {a0 a1 a2 a3 a4 a5 a6 a7 a8 x : Option XV} {r : Option Rl} {q : Int} (hd : decode M.1 pc = .ok (.astore 9, 2)) (hp : pc + 2 = pc') (hx : a8 = some (xL q)) (k : tvW M d K pc' (a0 :: a1 :: a2 :: a3 :: a4 :: a5 :: a6 :: a7 :: none :: some (xO r) :: L) st G bc bs) : tvW M d K pc (a0 :: a1 :: a2 :: a3 :: a4 :: a5 :: a6 :: a7 :: a8 :: x :: L) (xO r :: st) G bc bs := by subst hx; exact w_stG hd rfl (Or.inr ⟨rfl, 9, Or.inr rfl⟩) hp (by simp only [List.length_cons]; omega) (by simp [tv_st, tv_kl]) k
theorem w_inc9 {a0 a1 a2 a3 a4 a5 a6 a7 a8 : Option XV} {z n : Int} (hd : decode M.1 pc = .ok (.iinc 9 n, 3)) (hp : pc + 3 = pc') (hx : tv_kl a8 = a8) (hr : rg (z + n)) (k : tvW M d K pc' (a0 :: a1 :: a2 :: a3 :: a4 :: a5 :: a6 :: a7 :: a8 :: some (xI (z + n)) :: L) st G bc bs) : tvW M d K pc (a0 :: a1 :: a2 :: a3 :: a4 :: a5 :: a6 :: a7 :: a8 :: some (xI z) :: L) st G bc bs := w_incG hd hp rfl hr (by simp [tv_st, hx]) k
theorem w_lst9 {a0 a1 a2 a3 a4 a5 a6 a7 a8 x y : Option XV} {z : Int} (hd : decode M.1 pc = .ok (.lstore 9, 2)) (hp : pc + 2 = pc') (hx : tv_kl a8 = a8) (k : tvW M d K pc' (a0 :: a1 :: a2 :: a3 :: a4 :: a5 :: a6 :: a7 :: a8 :: some (xL z) :: none :: L) st G bc bs) : tvW M d K pc (a0 :: a1 :: a2 :: a3 :: a4 :: a5 :: a6 :: a7 :: a8 :: x :: y :: L) (xL z :: st) G bc bs := w_lsG hd (Or.inr ⟨rfl, rfl⟩) hp (by simp only [List.length_cons]; omega) (by simp [tv_s2, hx]) k
theorem w_ist10 {a0 a1 a2 a3 a4 a5 a6 a7 a8 a9 x : Option XV} {z : Int} (hd : decode M.1 pc = .ok (.istore 10, 2)) (hp : pc + 2 = pc') (hx : tv_kl a9 = a9) (k : tvW M d K pc' (a0 :: a1 :: a2 :: a3 :: a4 :: a5 :: a6 :: a7 :: a8 :: a9 :: some (xI z) :: L) st G bc bs) : tvW M d K pc (a0 :: a1 :: a2 :: a3 :: a4 :: a5 :: a6 :: a7 :: a8 :: a9 :: x :: L) (xI z :: st) G bc bs := w_stG hd rfl (Or.inr ⟨rfl, 10, Or.inl rfl⟩) hp (by simp only [List.length_cons]; omega) (by simp [tv_st, hx]) k
theorem w_isk10 {a0 a1 a2 a3 a4 a5 a6 a7 a8 a9 x : Option XV} {z : Int} {q : Int} (hd : decode M.1 pc = .ok (.istore 10, 2)) (hp : pc + 2 = pc') (hx : a9 = some (xL q)) (k : tvW M d K pc' (a0 :: a1 :: a2 :: a3 :: a4 :: a5 :: a6 :: a7 :: a8 :: none :: some (xI z) :: L) st G bc bs) : tvW M d K pc (a0 :: a1 :: a2 :: a3 :: a4 :: a5 :: a6 :: a7 :: a8 :: a9 :: x :: L) (xI z :: st) G bc bs := by subst hx; exact w_stG hd rfl (Or.inr ⟨rfl, 10, Or.inl rfl⟩) hp (by simp only [List.length_cons]; omega) (by simp [tv_st, tv_kl]) k
theorem w_ast10 {a0 a1 a2 a3 a4 a5 a6 a7 a8 a9 x : Option XV} {r : Option Rl} (hd : decode M.1 pc = .ok (.astore 10, 2)) (hp : pc + 2 = pc') (hx : tv_kl a9 = a9) (k : tvW M d K pc' (a0 :: a1 :: a2 :: a3 :: a4 :: a5 :: a6 :: a7 :: a8 :: a9 :: some (xO r) :: L) st G bc bs) : tvW M d K pc (a0 :: a1 :: a2 :: a3 :: a4 :: a5 :: a6 :: a7 :: a8 :: a9 :: x :: L) (xO r :: st) G bc bs := w_stG hd rfl (Or.inr ⟨rfl, 10, Or.inr rfl⟩) hp (by simp only [List.length_cons]; omega) (by simp [tv_st, hx]) k
theorem w_ask10 {a0 a1 a2 a3 a4 a5 a6 a7 a8 a9 x : Option XV} {r : Option Rl} {q : Int} (hd : decode M.1 pc = .ok (.astore 10, 2)) (hp : pc + 2 = pc') (hx : a9 = some (xL q)) (k : tvW M d K pc' (a0 :: a1 :: a2 :: a3 :: a4 :: a5 :: a6 :: a7 :: a8 :: none :: some (xO r) :: L) st G bc bs) : tvW M d K pc (a0 :: a1 :: a2 :: a3 :: a4 :: a5 :: a6 :: a7 :: a8 :: a9 :: x :: L) (xO r :: st) G bc bs := by subst hx; exact w_stG hd rfl (Or.inr ⟨rfl, 10, Or.inr rfl⟩) hp (by simp only [List.length_cons]; omega) (by simp [tv_st, tv_kl]) k
theorem w_inc10 {a0 a1 a2 a3 a4 a5 a6 a7 a8 a9 : Option XV} {z n : Int} (hd : decode M.1 pc = .ok (.iinc 10 n, 3)) (hp : pc + 3 = pc') (hx : tv_kl a9 = a9) (hr : rg (z + n)) (k : tvW M d K pc' (a0 :: a1 :: a2 :: a3 :: a4 :: a5 :: a6 :: a7 :: a8 :: a9 :: some (xI (z + n)) :: L) st G bc bs) : tvW M d K pc (a0 :: a1 :: a2 :: a3 :: a4 :: a5 :: a6 :: a7 :: a8 :: a9 :: some (xI z) :: L) st G bc bs := w_incG hd hp rfl hr (by simp [tv_st, hx]) k
theorem w_lst10 {a0 a1 a2 a3 a4 a5 a6 a7 a8 a9 x y : Option XV} {z : Int} (hd : decode M.1 pc = .ok (.lstore 10, 2)) (hp : pc + 2 = pc') (hx : tv_kl a9 = a9) (k : tvW M d K pc' (a0 :: a1 :: a2 :: a3 :: a4 :: a5 :: a6 :: a7 :: a8 :: a9 :: some (xL z) :: none :: L) st G bc bs) : tvW M d K pc (a0 :: a1 :: a2 :: a3 :: a4 :: a5 :: a6 :: a7 :: a8 :: a9 :: x :: y :: L) (xL z :: st) G bc bs := w_lsG hd (Or.inr ⟨rfl, rfl⟩) hp (by simp only [List.length_cons]; omega) (by simp [tv_s2, hx]) k
theorem w_ist11 {a0 a1 a2 a3 a4 a5 a6 a7 a8 a9 a10 x : Option XV} {z : Int} (hd : decode M.1 pc = .ok (.istore 11, 2)) (hp : pc + 2 = pc') (hx : tv_kl a10 = a10) (k : tvW M d K pc' (a0 :: a1 :: a2 :: a3 :: a4 :: a5 :: a6 :: a7 :: a8 :: a9 :: a10 :: some (xI z) :: L) st G bc bs) : tvW M d K pc (a0 :: a1 :: a2 :: a3 :: a4 :: a5 :: a6 :: a7 :: a8 :: a9 :: a10 :: x :: L) (xI z :: st) G bc bs := w_stG hd rfl (Or.inr ⟨rfl, 11, Or.inl rfl⟩) hp (by simp only [List.length_cons]; omega) (by simp [tv_st, hx]) k
theorem w_isk11 {a0 a1 a2 a3 a4 a5 a6 a7 a8 a9 a10 x : Option XV} {z : Int} {q : Int} (hd : decode M.1 pc = .ok (.istore 11, 2)) (hp : pc + 2 = pc') (hx : a10 = some (xL q)) (k : tvW M d K pc' (a0 :: a1 :: a2 :: a3 :: a4 :: a5 :: a6 :: a7 :: a8 :: a9 :: none :: some (xI z) :: L) st G bc bs) : tvW M d K pc (a0 :: a1 :: a2 :: a3 :: a4 :: a5 :: a6 :: a7 :: a8 :: a9 :: a10 :: x :: L) (xI z :: st) G bc bs := by subst hx; exact w_stG hd rfl (Or.inr ⟨rfl, 11, Or.inl rfl⟩) hp (by simp only [List.length_cons]; omega) (by simp [tv_st, tv_kl]) k
theorem w_ast11 {a0 a1 a2 a3 a4 a5 a6 a7 a8 a9 a10 x : Option XV} {r : Option Rl} (hd : decode M.1 pc = .ok (.astore 11, 2)) (hp : pc + 2 = pc') (hx : tv_kl a10 = a10) (k : tvW M d K pc' (a0 :: a1 :: a2 :: a3 :: a4 :: a5 :: a6 :: a7 :: a8 :: a9 :: a10 :: some (xO r) :: L) st G bc bs) : tvW M d K pc (a0 :: a1 :: a2 :: a3 :: a4 :: a5 :: a6 :: a7 :: a8 :: a9 :: a10 :: x :: L) (xO r :: st) G bc bs := w_stG hd rfl (Or.inr ⟨rfl, 11, Or.inr rfl⟩) hp (by simp only [List.length_cons]; omega) (by simp [tv_st, hx]) k
theorem w_ask11 {a0 a1 a2 a3 a4 a5 a6 a7 a8 a9 a10 x : Option XV} {r : Option Rl} {q : Int} (hd : decode M.1 pc = .ok (.astore 11, 2)) (hp : pc + 2 = pc') (hx : a10 = some (xL q)) (k : tvW M d K pc' (a0 :: a1 :: a2 :: a3 :: a4 :: a5 :: a6 :: a7 :: a8 :: a9 :: none :: some (xO r) :: L) st G bc bs) : tvW M d K pc (a0 :: a1 :: a2 :: a3 :: a4 :: a5 :: a6 :: a7 :: a8 :: a9 :: a10 :: x :: L) (xO r :: st) G bc bs := by subst hx; exact w_stG hd rfl (Or.inr ⟨rfl, 11, Or.inr rfl⟩) hp (by simp only [List.length_cons]; omega) (by simp [tv_st, tv_kl]) k
theorem w_inc11 {a0 a1 a2 a3 a4 a5 a6 a7 a8 a9 a10 : Option XV} {z n : Int} (hd : decode M.1 pc = .ok (.iinc 11 n, 3)) (hp : pc + 3 = pc') (hx : tv_kl a10 = a10) (hr : rg (z + n)) (k : tvW M d K pc' (a0 :: a1 :: a2 :: a3 :: a4 :: a5 :: a6 :: a7 :: a8 :: a9 :: a10 :: some (xI (z + n)) :: L) st G bc bs) : tvW M d K pc (a0 :: a1 :: a2 :: a3 :: a4 :: a5 :: a6 :: a7 :: a8 :: a9 :: a10 :: some (xI z) :: L) st G bc bs := w_incG hd hp rfl hr (by simp [tv_st, hx]) k
theorem w_lst11 {a0 a1 a2 a3 a4 a5 a6 a7 a8 a9 a10 x y : Option XV} {z : Int} (hd : decode M.1 pc = .ok (.lstore 11, 2)) (hp : pc + 2 = pc') (hx : tv_kl a10 = a10) (k : tvW M d K pc' (a0 :: a1 :: a2 :: a3 :: a4 :: a5 :: a6 :: a7 :: a8 :: a9 :: a10 :: some (xL z) :: none :: L) st G bc bs) : tvW M d K pc (a0 :: a1 :: a2 :: a3 :: a4 :: a5 :: a6 :: a7 :: a8 :: a9 :: a10 :: x :: y :: L) (xL z :: st) G bc bs := w_lsG hd (Or.inr ⟨rfl, rfl⟩) hp (by simp only [List.length_cons]; omega) (by simp [tv_s2, hx]) k
theorem w_ist12 {a0 a1 a2 a3 a4 a5 a6 a7 a8 a9 a10 a11 x : Option XV} {z : Int} (hd : decode M.1 pc = .ok (.istore 12, 2)) (hp : pc + 2 = pc') (hx : tv_kl a11 = a11) (k : tvW M d K pc' (a0 :: a1 :: a2 :: a3 :: a4 :: a5 :: a6 :: a7 :: a8 :: a9 :: a10 :: a11 :: some (xI z) :: L) st G bc bs) : tvW M d K pc (a0 :: a1 :: a2 :: a3 :: a4 :: a5 :: a6 :: a7 :: a8 :: a9 :: a10 :: a11 :: x :: L) (xI z :: st) G bc bs := w_stG hd rfl (Or.inr ⟨rfl, 12, Or.inl rfl⟩) hp (by simp only [List.length_cons]; omega) (by simp [tv_st, hx]) k
theorem w_isk12 {a0 a1 a2 a3 a4 a5 a6 a7 a8 a9 a10 a11 x : Option XV} {z : Int} {q : Int} (hd : decode M.1 pc = .ok (.istore 12, 2)) (hp : pc + 2 = pc') (hx : a11 = some (xL q)) (k : tvW M d K pc' (a0 :: a1 :: a2 :: a3 :: a4 :: a5 :: a6 :: a7 :: a8 :: a9 :: a10 :: none :: some (xI z) :: L) st G bc bs) : tvW M d K pc (a0 :: a1 :: a2 :: a3 :: a4 :: a5 :: a6 :: a7 :: a8 :: a9 :: a10 :: a11 :: x :: L) (xI z :: st) G bc bs := by subst hx; exact w_stG hd rfl (Or.inr ⟨rfl, 12, Or.inl rfl⟩) hp (by simp only [List.length_cons]; omega) (by simp [tv_st, tv_kl]) k
theorem w_ast12 {a0 a1 a2 a3 a4 a5 a6 a7 a8 a9 a10 a11 x : Option XV} {r : Option Rl} (hd : decode M.1 pc = .ok (.astore 12, 2)) (hp : pc + 2 = pc') (hx : tv_kl a11 = a11) (k : tvW M d K pc' (a0 :: a1 :: a2 :: a3 :: a4 :: a5 :: a6 :: a7 :: a8 :: a9 :: a10 :: a11 :: some (xO r) :: L) st G bc bs) : tvW M d K pc (a0 :: a1 :: a2 :: a3 :: a4 :: a5 :: a6 :: a7 :: a8 :: a9 :: a10 :: a11 :: x :: L) (xO r :: st) G bc bs := w_stG hd rfl (Or.inr ⟨rfl, 12, Or.inr rfl⟩) hp (by simp only [List.length_cons]; omega) (by simp [tv_st, hx]) k
theorem w_ask12 {a0 a1 a2 a3 a4 a5 a6 a7 a8 a9 a10 a11 x : Option XV} {r : Option Rl} {q : Int} (hd : decode M.1 pc = .ok (.astore 12, 2)) (hp : pc + 2 = pc') (hx : a11 = some (xL q)) (k : tvW M d K pc' (a0 :: a1 :: a2 :: a3 :: a4 :: a5 :: a6 :: a7 :: a8 :: a9 :: a10 :: none :: some (xO r) :: L) st G bc bs) : tvW M d K pc (a0 :: a1 :: a2 :: a3 :: a4 :: a5 :: a6 :: a7 :: a8 :: a9 :: a10 :: a11 :: x :: L) (xO r :: st) G bc bs := by subst hx; exact w_stG hd rfl (Or.inr ⟨rfl, 12, Or.inr rfl⟩) hp (by simp only [List.length_cons]; omega) (by simp [tv_st, tv_kl]) k
theorem w_inc12 {a0 a1 a2 a3 a4 a5 a6 a7 a8 a9 a10 a11 : Option XV} {z n : Int} (hd : decode M.1 pc = .ok (.iinc 12 n, 3)) (hp : pc + 3 = pc') (hx : tv_kl a11 = a11) (hr : rg (z + n)) (k : tvW M d K pc' (a0 :: a1 :: a2 :: a3 :: a4 :: a5 :: a6 :: a7 :: a8 :: a9 :: a10 :: a11 :: some (xI (z + n)) :: L) st G bc bs) : tvW M d K pc (a0 :: a1 :: a2 :: a3 :: a4 :: a5 :: a6 :: a7 :: a8 :: a9 :: a10 :: a11 :: some (xI z) :: L) st G bc bs := w_incG hd hp rfl hr (by simp [tv_st, hx]) k
theorem w_lst12 {a0 a1 a2 a3 a4 a5 a6 a7 a8 a9 a10 a11 x y : Option XV} {z : Int} (hd : decode M.1 pc = .ok (.lstore 12, 2)) (hp : pc + 2 = pc') (hx : tv_kl a11 = a11) (k : tvW M d K pc' (a0 :: a1 :: a2 :: a3 :: a4 :: a5 :: a6 :: a7 :: a8 :: a9 :: a10 :: a11 :: some (xL z) :: none :: L) st G bc bs) : tvW M d K pc (a0 :: a1 :: a2 :: a3 :: a4 :: a5 :: a6 :: a7 :: a8 :: a9 :: a10 :: a11 :: x :: y :: L) (xL z :: st) G bc bs := w_lsG hd (Or.inr ⟨rfl, rfl⟩) hp (by simp only [List.length_cons]; omega) (by simp [tv_s2, hx]) k
theorem w_ist13 {a0 a1 a2 a3 a4 a5 a6 a7 a8 a9 a10 a11 a12 x : Option XV} {z : Int} (hd : decode M.1 pc = .ok (.istore 13, 2)) (hp : pc + 2 = pc') (hx : tv_kl a12 = a12) (k : tvW M d K pc' (a0 :: a1 :: a2 :: a3 :: a4 :: a5 :: a6 :: a7 :: a8 :: a9 :: a10 :: a11 :: a12 :: some (xI z) :: L) st G bc bs) : tvW M d K pc (a0 :: a1 :: a2 :: a3 :: a4 :: a5 :: a6 :: a7 :: a8 :: a9 :: a10 :: a11 :: a12 :: x :: L) (xI z :: st) G bc bs := w_stG hd rfl (Or.inr ⟨rfl, 13, Or.inl rfl⟩) hp (by simp only [List.length_cons]; omega) (by simp [tv_st, hx]) k
theorem w_isk13 {a0 a1 a2 a3 a4 a5 a6 a7 a8 a9 a10 a11 a12 x : Option XV} {z : Int} {q : Int} (hd : decode M.1 pc = .ok (.istore 13, 2)) (hp : pc + 2 = pc') (hx : a12 = some (xL q)) (k : tvW M d K pc' (a0 :: a1 :: a2 :: a3 :: a4 :: a5 :: a6 :: a7 :: a8 :: a9 :: a10 :: a11 :: none :: some (xI z) :: L) st G bc bs) : tvW M d K pc (a0 :: a1 :: a2 :: a3 :: a4 :: a5 :: a6 :: a7 :: a8 :: a9 :: a10 :: a11 :: a12 :: x :: L) (xI z :: st) G bc bs := by subst hx; exact w_stG hd rfl (Or.inr ⟨rfl, 13, Or.inl rfl⟩) hp (by simp only [List.length_cons]; omega) (by simp [tv_st, tv_kl]) k
theorem w_ast13 {a0 a1 a2 a3 a4 a5 a6 a7 a8 a9 a10 a11 a12 x : Option XV} {r : Option Rl} (hd : decode M.1 pc = .ok (.astore 13, 2)) (hp : pc + 2 = pc') (hx : tv_kl a12 = a12) (k : tvW M d K pc' (a0 :: a1 :: a2 :: a3 :: a4 :: a5 :: a6 :: a7 :: a8 :: a9 :: a10 :: a11 :: a12 :: some (xO r) :: L) st G bc bs) : tvW M d K pc (a0 :: a1 :: a2 :: a3 :: a4 :: a5 :: a6 :: a7 :: a8 :: a9 :: a10 :: a11 :: a12 :: x :: L) (xO r :: st) G bc bs := w_stG hd rfl (Or.inr ⟨rfl, 13, Or.inr rfl⟩) hp (by simp only [List.length_cons]; omega) (by simp [tv_st, hx]) k
theorem w_ask13 {a0 a1 a2 a3 a4 a5 a6 a7 a8 a9 a10 a11 a12 x : Option XV} {r : Option Rl} {q : Int} (hd : decode M.1 pc = .ok (.astore 13, 2)) (hp : pc + 2 = pc') (hx : a12 = some (xL q)) (k : tvW M d K pc' (a0 :: a1 :: a2 :: a3 :: a4 :: a5 :: a6 :: a7 :: a8 :: a9 :: a10 :: a11 :: none :: some (xO r) :: L) st G bc bs) : tvW M d K pc (a0 :: a1 :: a2 :: a3 :: a4 :: a5 :: a6 :: a7 :: a8 :: a9 :: a10 :: a11 :: a12 :: x :: L) (xO r :: st) G bc bs := by subst hx; exact w_stG hd rfl (Or.inr ⟨rfl, 13, Or.inr rfl⟩) hp (by simp only [List.length_cons]; omega) (by simp [tv_st, tv_kl]) k
theorem w_inc13 {a0 a1 a2 a3 a4 a5 a6 a7 a8 a9 a10 a11 a12 : Option XV} {z n : Int} (hd : decode M.1 pc = .ok (.iinc 13 n, 3)) (hp : pc + 3 = pc') (hx : tv_kl a12 = a12) (hr : rg (z + n)) (k : tvW M d K pc' (a0 :: a1 :: a2 :: a3 :: a4 :: a5 :: a6 :: a7 :: a8 :: a9 :: a10 :: a11 :: a12 :: some (xI (z + n)) :: L) st G bc bs) : tvW M d K pc (a0 :: a1 :: a2 :: a3 :: a4 :: a5 :: a6 :: a7 :: a8 :: a9 :: a10 :: a11 :: a12 :: some (xI z) :: L) st G bc bs := w_incG hd hp rfl hr (by simp [tv_st, hx]) k
theorem w_lst13 {a0 a1 a2 a3 a4 a5 a6 a7 a8 a9 a10 a11 a12 x y : Option XV} {z : Int} (hd : decode M.1 pc = .ok (.lstore 13, 2)) (hp : pc + 2 = pc') (hx : tv_kl a12 = a12) (k : tvW M d K pc' (a0 :: a1 :: a2 :: a3 :: a4 :: a5 :: a6 :: a7 :: a8 :: a9 :: a10 :: a11 :: a12 :: some (xL z) :: none :: L) st G bc bs) : tvW M d K pc (a0 :: a1 :: a2 :: a3 :: a4 :: a5 :: a6 :: a7 :: a8 :: a9 :: a10 :: a11 :: a12 :: x :: y :: L) (xL z :: st) G bc bs := w_lsG hd (Or.inr ⟨rfl, rfl⟩) hp (by simp only [List.length_cons]; omega) (by simp [tv_s2, hx]) k
theorem w_ist14 {a0 a1 a2 a3 a4 a5 a6 a7 a8 a9 a10 a11 a12 a13 x : Option XV} {z : Int} (hd : decode M.1 pc = .ok (.istore 14, 2)) (hp : pc + 2 = pc') (hx : tv_kl a13 = a13) (k : tvW M d K pc' (a0 :: a1 :: a2 :: a3 :: a4 :: a5 :: a6 :: a7 :: a8 :: a9 :: a10 :: a11 :: a12 :: a13 :: some (xI z) :: L) st G bc bs) : tvW M d K pc (a0 :: a1 :: a2 :: a3 :: a4 :: a5 :: a6 :: a7 :: a8 :: a9 :: a10 :: a11 :: a12 :: a13 :: x :: L) (xI z :: st) G bc bs := w_stG hd rfl (Or.inr ⟨rfl, 14, Or.inl rfl⟩) hp (by simp only [List.length_cons]; omega) (by simp [tv_st, hx]) k
theorem w_isk14 {a0 a1 a2 a3 a4 a5 a6 a7 a8 a9 a10 a11 a12 a13 x : Option XV} {z : Int} {q : Int} (hd : decode M.1 pc = .ok (.istore 14, 2)) (hp : pc + 2 = pc') (hx : a13 = some (xL q)) (k : tvW M d K pc' (a0 :: a1 :: a2 :: a3 :: a4 :: a5 :: a6 :: a7 :: a8 :: a9 :: a10 :: a11 :: a12 :: none :: some (xI z) :: L) st G bc bs) : tvW M d K pc (a0 :: a1 :: a2 :: a3 :: a4 :: a5 :: a6 :: a7 :: a8 :: a9 :: a10 :: a11 :: a12 :: a13 :: x :: L) (xI z :: st) G bc bs := by subst hx; exact w_stG hd rfl (Or.inr ⟨rfl, 14, Or.inl rfl⟩) hp (by simp only [List.length_cons]; omega) (by simp [tv_st, tv_kl]) k
theorem w_ast14 {a0 a1 a2 a3 a4 a5 a6 a7 a8 a9 a10 a11 a12 a13 x : Option XV} {r : Option Rl} (hd : decode M.1 pc = .ok (.astore 14, 2)) (hp : pc + 2 = pc') (hx : tv_kl a13 = a13) (k : tvW M d K pc' (a0 :: a1 :: a2 :: a3 :: a4 :: a5 :: a6 :: a7 :: a8 :: a9 :: a10 :: a11 :: a12 :: a13 :: some (xO r) :: L) st G bc bs) : tvW M d K pc (a0 :: a1 :: a2 :: a3 :: a4 :: a5 :: a6 :: a7 :: a8 :: a9 :: a10 :: a11 :: a12 :: a13 :: x :: L) (xO r :: st) G bc bs := w_stG hd rfl (Or.inr ⟨rfl, 14, Or.inr rfl⟩) hp (by simp only [List.length_cons]; omega) (by simp [tv_st, hx]) k
theorem w_ask14 {a0 a1 a2 a3 a4 a5 a6 a7 a8 a9 a10 a11 a12 a13 x : Option XV} {r : Option Rl} {q : Int} (hd : decode M.1 pc = .ok (.astore 14, 2)) (hp : pc + 2 = pc') (hx : a13 = some (xL q)) (k : tvW M d K pc' (a0 :: a1 :: a2 :: a3 :: a4 :: a5 :: a6 :: a7 :: a8 :: a9 :: a10 :: a11 :: a12 :: none :: some (xO r) :: L) st G bc bs) : tvW M d K pc (a0 :: a1 :: a2 :: a3 :: a4 :: a5 :: a6 :: a7 :: a8 :: a9 :: a10 :: a11 :: a12 :: a13 :: x :: L) (xO r :: st) G bc bs := by subst hx; exact w_stG hd rfl (Or.inr ⟨rfl, 14, Or.inr rfl⟩) hp (by simp only [List.length_cons]; omega) (by simp [tv_st, tv_kl]) k
theorem w_inc14 {a0 a1 a2 a3 a4 a5 a6 a7 a8 a9 a10 a11 a12 a13 : Option XV} {z n : Int} (hd : decode M.1 pc = .ok (.iinc 14 n, 3)) (hp : pc + 3 = pc') (hx : tv_kl a13 = a13) (hr : rg (z + n)) (k : tvW M d K pc' (a0 :: a1 :: a2 :: a3 :: a4 :: a5 :: a6 :: a7 :: a8 :: a9 :: a10 :: a11 :: a12 :: a13 :: some (xI (z + n)) :: L) st G bc bs) : tvW M d K pc (a0 :: a1 :: a2 :: a3 :: a4 :: a5 :: a6 :: a7 :: a8 :: a9 :: a10 :: a11 :: a12 :: a13 :: some (xI z) :: L) st G bc bs := w_incG hd hp rfl hr (by simp [tv_st, hx]) k
theorem w_lst14 {a0 a1 a2 a3 a4 a5 a6 a7 a8 a9 a10 a11 a12 a13 x y : Option XV} {z : Int} (hd : decode M.1 pc = .ok (.lstore 14, 2)) (hp : pc + 2 = pc') (hx : tv_kl a13 = a13) (k : tvW M d K pc' (a0 :: a1 :: a2 :: a3 :: a4 :: a5 :: a6 :: a7 :: a8 :: a9 :: a10 :: a11 :: a12 :: a13 :: some (xL z) :: none :: L) st G bc bs) : tvW M d K pc (a0 :: a1 :: a2 :: a3 :: a4 :: a5 :: a6 :: a7 :: a8 :: a9 :: a10 :: a11 :: a12 :: a13 :: x :: y :: L) (xL z :: st) G bc bs := w_lsG hd (Or.inr ⟨rfl, rfl⟩) hp (by simp only [List.length_cons]; omega) (by simp [tv_s2, hx]) k
theorem w_ist15 {a0 a1 a2 a3 a4 a5 a6 a7 a8 a9 a10 a11 a12 a13 a14 x : Option XV} {z : Int} (hd : decode M.1 pc = .ok (.istore 15, 2)) (hp : pc + 2 = pc') (hx : tv_kl a14 = a14) (k : tvW M d K pc' (a0 :: a1 :: a2 :: a3 :: a4 :: a5 :: a6 :: a7 :: a8 :: a9 :: a10 :: a11 :: a12 :: a13 :: a14 :: some (xI z) :: L) st G bc bs) : tvW M d K pc (a0 :: a1 :: a2 :: a3 :: a4 :: a5 :: a6 :: a7 :: a8 :: a9 :: a10 :: a11 :: a12 :: a13 :: a14 :: x :: L) (xI z :: st) G bc bs := w_stG hd rfl (Or.inr ⟨rfl, 15, Or.inl rfl⟩) hp (by simp only [List.length_cons]; omega) (by simp [tv_st, hx]) k
theorem w_isk15 {a0 a1 a2 a3 a4 a5 a6 a7 a8 a9 a10 a11 a12 a13 a14 x : Option XV} {z : Int} {q : Int} (hd : decode M.1 pc = .ok (.istore 15, 2)) (hp : pc + 2 = pc') (hx : a14 = some (xL q)) (k : tvW M d K pc' (a0 :: a1 :: a2 :: a3 :: a4 :: a5 :: a6 :: a7 :: a8 :: a9 :: a10 :: a11 :: a12 :: a13 :: none :: some (xI z) :: L) st G bc bs) : tvW M d K pc (a0 :: a1 :: a2 :: a3 :: a4 :: a5 :: a6 :: a7 :: a8 :: a9 :: a10 :: a11 :: a12 :: a13 :: a14 :: x :: L) (xI z :: st) G bc bs := by subst hx; exact w_stG hd rfl (Or.inr ⟨rfl, 15, Or.inl rfl⟩) hp (by simp only [List.length_cons]; omega) (by simp [tv_st, tv_kl]) k
theorem w_ast15 {a0 a1 a2 a3 a4 a5 a6 a7 a8 a9 a10 a11 a12 a13 a14 x : Option XV} {r : Option Rl} (hd : decode M.1 pc = .ok (.astore 15, 2)) (hp : pc + 2 = pc') (hx : tv_kl a14 = a14) (k : tvW M d K pc' (a0 :: a1 :: a2 :: a3 :: a4 :: a5 :: a6 :: a7 :: a8 :: a9 :: a10 :: a11 :: a12 :: a13 :: a14 :: some (xO r) :: L) st G bc bs) : tvW M d K pc (a0 :: a1 :: a2 :: a3 :: a4 :: a5 :: a6 :: a7 :: a8 :: a9 :: a10 :: a11 :: a12 :: a13 :: a14 :: x :: L) (xO r :: st) G bc bs := w_stG hd rfl (Or.inr ⟨rfl, 15, Or.inr rfl⟩) hp (by simp only [List.length_cons]; omega) (by simp [tv_st, hx]) k
theorem w_ask15 {a0 a1 a2 a3 a4 a5 a6 a7 a8 a9 a10 a11 a12 a13 a14 x : Option XV} {r : Option Rl} {q : Int} (hd : decode M.1 pc = .ok (.astore 15, 2)) (hp : pc + 2 = pc') (hx : a14 = some (xL q)) (k : tvW M d K pc' (a0 :: a1 :: a2 :: a3 :: a4 :: a5 :: a6 :: a7 :: a8 :: a9 :: a10 :: a11 :: a12 :: a13 :: none :: some (xO r) :: L) st G bc bs) : tvW M d K pc (a0 :: a1 :: a2 :: a3 :: a4 :: a5 :: a6 :: a7 :: a8 :: a9 :: a10 :: a11 :: a12 :: a13 :: a14 :: x :: L) (xO r :: st) G bc bs := by subst hx; exact w_stG hd rfl (Or.inr ⟨rfl, 15, Or.inr rfl⟩) hp (by simp only [List.length_cons]; omega) (by simp [tv_st, tv_kl]) k
theorem w_inc15 {a0 a1 a2 a3 a4 a5 a6 a7 a8 a9 a10 a11 a12 a13 a14 : Option XV} {z n : Int} (hd : decode M.1 pc = .ok (.iinc 15 n, 3)) (hp : pc + 3 = pc') (hx : tv_kl a14 = a14) (hr : rg (z + n)) (k : tvW M d K pc' (a0 :: a1 :: a2 :: a3 :: a4 :: a5 :: a6 :: a7 :: a8 :: a9 :: a10 :: a11 :: a12 :: a13 :: a14 :: some (xI (z + n)) :: L) st G bc bs) : tvW M d K pc (a0 :: a1 :: a2 :: a3 :: a4 :: a5 :: a6 :: a7 :: a8 :: a9 :: a10 :: a11 :: a12 :: a13 :: a14 :: some (xI z) :: L) st G bc bs := w_incG hd hp rfl hr (by simp [tv_st, hx]) k
theorem w_lst15 {a0 a1 a2 a3 a4 a5 a6 a7 a8 a9 a10 a11 a12 a13 a14 x y : Option XV} {z : Int} (hd : decode M.1 pc = .ok (.lstore 15, 2)) (hp : pc + 2 = pc') (hx : tv_kl a14 = a14) (k : tvW M d K pc' (a0 :: a1 :: a2 :: a3 :: a4 :: a5 :: a6 :: a7 :: a8 :: a9 :: a10 :: a11 :: a12 :: a13 :: a14 :: some (xL z) :: none :: L) st G bc bs) : tvW M d K pc (a0 :: a1 :: a2 :: a3 :: a4 :: a5 :: a6 :: a7 :: a8 :: a9 :: a10 :: a11 :: a12 :: a13 :: a14 :: x :: y :: L) (xL z :: st) G bc bs := w_lsG hd (Or.inr ⟨rfl, rfl⟩) hp (by simp only [List.length_cons]; omega) (by simp [tv_s2, hx]) k
theorem w_ist16 {a0 a1 a2 a3 a4 a5 a6 a7 a8 a9 a10 a11 a12 a13 a14 a15 x : Option XV} {z : Int} (hd : decode M.1 pc = .ok (.istore 16, 2)) (hp : pc + 2 = pc') (hx : tv_kl a15 = a15) (k : tvW M d K pc' (a0 :: a1 :: a2 :: a3 :: a4 :: a5 :: a6 :: a7 :: a8 :: a9 :: a10 :: a11 :: a12 :: a13 :: a14 :: a15 :: some (xI z) :: L) st G bc bs) : tvW M d K pc (a0 :: a1 :: a2 :: a3 :: a4 :: a5 :: a6 :: a7 :: a8 :: a9 :: a10 :: a11 :: a12 :: a13 :: a14 :: a15 :: x :: L) (xI z :: st) G bc bs := w_stG hd rfl (Or.inr ⟨rfl, 16, Or.inl rfl⟩) hp (by simp only [List.length_cons]; omega) (by simp [tv_st, hx]) k
theorem w_isk16 {a0 a1 a2 a3 a4 a5 a6 a7 a8 a9 a10 a11 a12 a13 a14 a15 x : Option XV} {z : Int} {q : Int} (hd : decode M.1 pc = .ok (.istore 16, 2)) (hp : pc + 2 = pc') (hx : a15 = some (xL q)) (k : tvW M d K pc' (a0 :: a1 :: a2 :: a3 :: a4 :: a5 :: a6 :: a7 :: a8 :: a9 :: a10 :: a11 :: a12 :: a13 :: a14 :: none :: some (xI z) :: L) st G bc bs) : tvW M d K pc (a0 :: a1 :: a2 :: a3 :: a4 :: a5 :: a6 :: a7 :: a8 :: a9 :: a10 :: a11 :: a12 :: a13 :: a14 :: a15 :: x :: L) (xI z :: st) G bc bs := by subst hx; exact w_stG hd rfl (Or.inr ⟨rfl, 16, Or.inl rfl⟩) hp (by simp only [List.length_cons]; omega) (by simp [tv_st, tv_kl]) k
theorem w_ast16 {a0 a1 a2 a3 a4 a5 a6 a7 a8 a9 a10 a11 a12 a13 a14 a15 x : Option XV} {r : Option Rl} (hd : decode M.1 pc = .ok (.astore 16, 2)) (hp : pc + 2 = pc') (hx : tv_kl a15 = a15) (k : tvW M d K pc' (a0 :: a1 :: a2 :: a3 :: a4 :: a5 :: a6 :: a7 :: a8 :: a9 :: a10 :: a11 :: a12 :: a13 :: a14 :: a15 :: some (xO r) :: L) st G bc bs) : tvW M d K pc (a0 :: a1 :: a2 :: a3 :: a4 :: a5 :: a6 :: a7 :: a8 :: a9 :: a10 :: a11 :: a12 :: a13 :: a14 :: a15 :: x :: L) (xO r :: st) G bc bs := w_stG hd rfl (Or.inr ⟨rfl, 16, Or.inr rfl⟩) hp (by simp only [List.length_cons]; omega) (by simp [tv_st, hx]) k
theorem w_ask16 {a0 a1 a2 a3 a4 a5 a6 a7 a8 a9 a10 a11 a12 a13 a14 a15 x : Option XV} {r : Option Rl} {q : Int} (hd : decode M.1 pc = .ok (.astore 16, 2)) (hp : pc + 2 = pc') (hx : a15 = some (xL q)) (k : tvW M d K pc' (a0 :: a1 :: a2 :: a3 :: a4 :: a5 :: a6 :: a7 :: a8 :: a9 :: a10 :: a11 :: a12 :: a13 :: a14 :: none :: some (xO r) :: L) st G bc bs) : tvW M d K pc (a0 :: a1 :: a2 :: a3 :: a4 :: a5 :: a6 :: a7 :: a8 :: a9 :: a10 :: a11 :: a12 :: a13 :: a14 :: a15 :: x :: L) (xO r :: st) G bc bs := by subst hx; exact w_stG hd rfl (Or.inr ⟨rfl, 16, Or.inr rfl⟩) hp (by simp only [List.length_cons]; omega) (by simp [tv_st, tv_kl]) k
theorem w_inc16 {a0 a1 a2 a3 a4 a5 a6 a7 a8 a9 a10 a11 a12 a13 a14 a15 : Option XV} {z n : Int} (hd : decode M.1 pc = .ok (.iinc 16 n, 3)) (hp : pc + 3 = pc') (hx : tv_kl a15 = a15) (hr : rg (z + n)) (k : tvW M d K pc' (a0 :: a1 :: a2 :: a3 :: a4 :: a5 :: a6 :: a7 :: a8 :: a9 :: a10 :: a11 :: a12 :: a13 :: a14 :: a15 :: some (xI (z + n)) :: L) st G bc bs) : tvW M d K pc (a0 :: a1 :: a2 :: a3 :: a4 :: a5 :: a6 :: a7 :: a8 :: a9 :: a10 :: a11 :: a12 :: a13 :: a14 :: a15 :: some (xI z) :: L) st G bc bs := w_incG hd hp rfl hr (by simp [tv_st, hx]) k
theorem w_lst16 {a0 a1 a2 a3 a4 a5 a6 a7 a8 a9 a10 a11 a12 a13 a14 a15 x y : Option XV} {z : Int} (hd : decode M.1 pc = .ok (.lstore 16, 2)) (hp : pc + 2 = pc') (hx : tv_kl a15 = a15) (k : tvW M d K pc' (a0 :: a1 :: a2 :: a3 :: a4 :: a5 :: a6 :: a7 :: a8 :: a9 :: a10 :: a11 :: a12 :: a13 :: a14 :: a15 :: some (xL z) :: none :: L) st G bc bs) : tvW M d K pc (a0 :: a1 :: a2 :: a3 :: a4 :: a5 :: a6 :: a7 :: a8 :: a9 :: a10 :: a11 :: a12 :: a13 :: a14 :: a15 :: x :: y :: L) (xL z :: st) G bc bs := w_lsG hd (Or.inr ⟨rfl, rfl⟩) hp (by simp only [List.length_cons]; omega) (by simp [tv_s2, hx]) k
theorem w_ist17 {a0 a1 a2 a3 a4 a5 a6 a7 a8 a9 a10 a11 a12 a13 a14 a15 a16 x : Option XV} {z : Int} (hd : decode M.1 pc = .ok (.istore 17, 2)) (hp : pc + 2 = pc') (hx : tv_kl a16 = a16) (k : tvW M d K pc' (a0 :: a1 :: a2 :: a3 :: a4 :: a5 :: a6 :: a7 :: a8 :: a9 :: a10 :: a11 :: a12 :: a13 :: a14 :: a15 :: a16 :: some (xI z) :: L) st G bc bs) : tvW M d K pc (a0 :: a1 :: a2 :: a3 :: a4 :: a5 :: a6 :: a7 :: a8 :: a9 :: a10 :: a11 :: a12 :: a13 :: a14 :: a15 :: a16 :: x :: L) (xI z :: st) G bc bs := w_stG hd rfl (Or.inr ⟨rfl, 17, Or.inl rfl⟩) hp (by simp only [List.length_cons]; omega) (by simp [tv_st, hx]) k
theorem w_isk17 {a0 a1 a2 a3 a4 a5 a6 a7 a8 a9 a10 a11 a12 a13 a14 a15 a16 x : Option XV} {z : Int} {q : Int} (hd : decode M.1 pc = .ok (.istore 17, 2)) (hp : pc + 2 = pc') (hx : a16 = some (xL q)) (k : tvW M d K pc' (a0 :: a1 :: a2 :: a3 :: a4 :: a5 :: a6 :: a7 :: a8 :: a9 :: a10 :: a11 :: a12 :: a13 :: a14 :: a15 :: none :: some (xI z) :: L) st G bc bs) : tvW M d K pc (a0 :: a1 :: a2 :: a3 :: a4 :: a5 :: a6 :: a7 :: a8 :: a9 :: a10 :: a11 :: a12 :: a13 :: a14 :: a15 :: a16 :: x :: L) (xI z :: st) G bc bs := by subst hx; exact w_stG hd rfl (Or.inr ⟨rfl, 17, Or.inl rfl⟩) hp (by simp only [List.length_cons]; omega) (by simp [tv_st, tv_kl]) k
theorem w_ast17 {a0 a1 a2 a3 a4 a5 a6 a7 a8 a9 a10 a11 a12 a13 a14 a15 a16 x : Option XV} {r : Option Rl} (hd : decode M.1 pc = .ok (.astore 17, 2)) (hp : pc + 2 = pc') (hx : tv_kl a16 = a16) (k : tvW M d K pc' (a0 :: a1 :: a2 :: a3 :: a4 :: a5 :: a6 :: a7 :: a8 :: a9 :: a10 :: a11 :: a12 :: a13 :: a14 :: a15 :: a16 :: some (xO r) :: L) st G bc bs) : tvW M d K pc (a0 :: a1 :: a2 :: a3 :: a4 :: a5 :: a6 :: a7 :: a8 :: a9 :: a10 :: a11 :: a12 :: a13 :: a14 :: a15 :: a16 :: x :: L) (xO r :: st) G bc bs := w_stG hd rfl (Or.inr ⟨rfl, 17, Or.inr rfl⟩) hp (by simp only [List.length_cons]; omega) (by simp [tv_st, hx]) k
theorem w_ask17 {a0 a1 a2 a3 a4 a5 a6 a7 a8 a9 a10 a11 a12 a13 a14 a15 a16 x : Option XV} {r : Option Rl} {q : Int} (hd : decode M.1 pc = .ok (.astore 17, 2)) (hp : pc + 2 = pc') (hx : a16 = some (xL q)) (k : tvW M d K pc' (a0 :: a1 :: a2 :: a3 :: a4 :: a5 :: a6 :: a7 :: a8 :: a9 :: a10 :: a11 :: a12 :: a13 :: a14 :: a15 :: none :: some (xO r) :: L) st G bc bs) : tvW M d K pc (a0 :: a1 :: a2 :: a3 :: a4 :: a5 :: a6 :: a7 :: a8 :: a9 :: a10 :: a11 :: a12 :: a13 :: a14 :: a15 :: a16 :: x :: L) (xO r :: st) G bc bs := by subst hx; exact w_stG hd rfl (Or.inr ⟨rfl, 17, Or.inr rfl⟩) hp (by simp only [List.length_cons]; omega) (by simp [tv_st, tv_kl]) k
theorem w_inc17 {a0 a1 a2 a3 a4 a5 a6 a7 a8 a9 a10 a11 a12 a13 a14 a15 a16 : Option XV} {z n : Int} (hd : decode M.1 pc = .ok (.iinc 17 n, 3)) (hp : pc + 3 = pc') (hx : tv_kl a16 = a16) (hr : rg (z + n)) (k : tvW M d K pc' (a0 :: a1 :: a2 :: a3 :: a4 :: a5 :: a6 :: a7 :: a8 :: a9 :: a10 :: a11 :: a12 :: a13 :: a14 :: a15 :: a16 :: some (xI (z + n)) :: L) st G bc bs) : tvW M d K pc (a0 :: a1 :: a2 :: a3 :: a4 :: a5 :: a6 :: a7 :: a8 :: a9 :: a10 :: a11 :: a12 :: a13 :: a14 :: a15 :: a16 :: some (xI z) :: L) st G bc bs := w_incG hd hp rfl hr (by simp [tv_st, hx]) k
theorem w_lst17 {a0 a1 a2 a3 a4 a5 a6 a7 a8 a9 a10 a11 a12 a13 a14 a15 a16 x y : Option XV} {z : Int} (hd : decode M.1 pc = .ok (.lstore 17, 2)) (hp : pc + 2 = pc') (hx : tv_kl a16 = a16) (k : tvW M d K pc' (a0 :: a1 :: a2 :: a3 :: a4 :: a5 :: a6 :: a7 :: a8 :: a9 :: a10 :: a11 :: a12 :: a13 :: a14 :: a15 :: a16 :: some (xL z) :: none :: L) st G bc bs) : tvW M d K pc (a0 :: a1 :: a2 :: a3 :: a4 :: a5 :: a6 :: a7 :: a8 :: a9 :: a10 :: a11 :: a12 :: a13 :: a14 :: a15 :: a16 :: x :: y :: L) (xL z :: st) G bc bs := w_lsG hd (Or.inr ⟨rfl, rfl⟩) hp (by simp only [List.length_cons]; omega) (by simp [tv_s2, hx]) k
theorem w_ist18 {a0 a1 a2 a3 a4 a5 a6 a7 a8 a9 a10 a11 a12 a13 a14 a15 a16 a17 x : Option XV} {z : Int} (hd : decode M.1 pc = .ok (.istore 18, 2)) (hp : pc + 2 = pc') (hx : tv_kl a17 = a17) (k : tvW M d K pc' (a0 :: a1 :: a2 :: a3 :: a4 :: a5 :: a6 :: a7 :: a8 :: a9 :: a10 :: a11 :: a12 :: a13 :: a14 :: a15 :: a16 :: a17 :: some (xI z) :: L) st G bc bs) : tvW M d K pc (a0 :: a1 :: a2 :: a3 :: a4 :: a5 :: a6 :: a7 :: a8 :: a9 :: a10 :: a11 :: a12 :: a13 :: a14 :: a15 :: a16 :: a17 :: x :: L) (xI z :: st) G bc bs := w_stG hd rfl (Or.inr ⟨rfl, 18, Or.inl rfl⟩) hp (by simp only [List.length_cons]; omega) (by simp [tv_st, hx]) k
theorem w_isk18 {a0 a1 a2 a3 a4 a5 a6 a7 a8 a9 a10 a11 a12 a13 a14 a15 a16 a17 x : Option XV} {z : Int} {q : Int} (hd : decode M.1 pc = .ok (.istore 18, 2)) (hp : pc + 2 = pc') (hx : a17 = some (xL q)) (k : tvW M d K pc' (a0 :: a1 :: a2 :: a3 :: a4 :: a5 :: a6 :: a7 :: a8 :: a9 :: a10 :: a11 :: a12 :: a13 :: a14 :: a15 :: a16 :: none :: some (xI z) :: L) st G bc bs) : tvW M d K pc (a0 :: a1 :: a2 :: a3 :: a4 :: a5 :: a6 :: a7 :: a8 :: a9 :: a10 :: a11 :: a12 :: a13 :: a14 :: a15 :: a16 :: a17 :: x :: L) (xI z :: st) G bc bs := by subst hx; exact w_stG hd rfl (Or.inr ⟨rfl, 18, Or.inl rfl⟩) hp (by simp only [List.length_cons]; omega) (by simp [tv_st, tv_kl]) k
theorem w_ast18 {a0 a1 a2 a3 a4 a5 a6 a7 a8 a9 a10 a11 a12 a13 a14 a15 a16 a17 x : Option XV} {r : Option Rl} (hd : decode M.1 pc = .ok (.astore 18, 2)) (hp : pc + 2 = pc') (hx : tv_kl a17 = a17) (k : tvW M d K pc' (a0 :: a1 :: a2 :: a3 :: a4 :: a5 :: a6 :: a7 :: a8 :: a9 :: a10 :: a11 :: a12 :: a13 :: a14 :: a15 :: a16 :: a17 :: some (xO r) :: L) st G bc bs) : tvW M d K pc (a0 :: a1 :: a2 :: a3 :: a4 :: a5 :: a6 :: a7 :: a8 :: a9 :: a10 :: a11 :: a12 :: a13 :: a14 :: a15 :: a16 :: a17 :: x :: L) (xO r :: st) G bc bs := w_stG hd rfl (Or.inr ⟨rfl, 18, Or.inr rfl⟩) hp (by simp only [List.length_cons]; omega) (by simp [tv_st, hx]) k
theorem w_ask18 {a0 a1 a2 a3 a4 a5 a6 a7 a8 a9 a10 a11 a12 a13 a14 a15 a16 a17 x : Option XV} {r : Option Rl} {q : Int} (hd : decode M.1 pc = .ok (.astore 18, 2)) (hp : pc + 2 = pc') (hx : a17 = some (xL q)) (k : tvW M d K pc' (a0 :: a1 :: a2 :: a3 :: a4 :: a5 :: a6 :: a7 :: a8 :: a9 :: a10 :: a11 :: a12 :: a13 :: a14 :: a15 :: a16 :: none :: some (xO r) :: L) st G bc bs) : tvW M d K pc (a0 :: a1 :: a2 :: a3 :: a4 :: a5 :: a6 :: a7 :: a8 :: a9 :: a10 :: a11 :: a12 :: a13 :: a14 :: a15 :: a16 :: a17 :: x :: L) (xO r :: st) G bc bs := by subst hx; exact w_stG hd rfl (Or.inr ⟨rfl, 18, Or.inr rfl⟩) hp (by simp only [List.length_cons]; omega) (by simp [tv_st, tv_kl]) k
theorem w_inc18 {a0 a1 a2 a3 a4 a5 a6 a7 a8 a9 a10 a11 a12 a13 a14 a15 a16 a17 : Option XV} {z n : Int} (hd : decode M.1 pc = .ok (.iinc 18 n, 3)) (hp : pc + 3 = pc') (hx : tv_kl a17 = a17) (hr : rg (z + n)) (k : tvW M d K pc' (a0 :: a1 :: a2 :: a3 :: a4 :: a5 :: a6 :: a7 :: a8 :: a9 :: a10 :: a11 :: a12 :: a13 :: a14 :: a15 :: a16 :: a17 :: some (xI (z + n)) :: L) st G bc bs) : tvW M d K pc (a0 :: a1 :: a2 :: a3 :: a4 :: a5 :: a6 :: a7 :: a8 :: a9 :: a10 :: a11 :: a12 :: a13 :: a14 :: a15 :: a16 :: a17 :: some (xI z) :: L) st G bc bs := w_incG hd hp rfl hr (by simp [tv_st, hx]) k
theorem w_lst18 {a0 a1 a2 a3 a4 a5 a6 a7 a8 a9 a10 a11 a12 a13 a14 a15 a16 a17 x y : Option XV} {z : Int} (hd : decode M.1 pc = .ok (.lstore 18, 2)) (hp : pc + 2 = pc') (hx : tv_kl a17 = a17) (k : tvW M d K pc' (a0 :: a1 :: a2 :: a3 :: a4 :: a5 :: a6 :: a7 :: a8 :: a9 :: a10 :: a11 :: a12 :: a13 :: a14 :: a15 :: a16 :: a17 :: some (xL z) :: none :: L) st G bc bs) : tvW M d K pc (a0 :: a1 :: a2 :: a3 :: a4 :: a5 :: a6 :: a7 :: a8 :: a9 :: a10 :: a11 :: a12 :: a13 :: a14 :: a15 :: a16 :: a17 :: x :: y :: L) (xL z :: st) G bc bs := w_lsG hd (Or.inr ⟨rfl, rfl⟩) hp (by simp only [List.length_cons]; omega) (by simp [tv_s2, hx]) k
end STEPS
