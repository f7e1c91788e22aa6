set_option maxRecDepth 10000
section BRANCH
variable {M : tv_M} {d : Nat} {K : Option XV → GH → Prop} {pc pc' tgt : Nat} {off : Int} {L L' : List (Option XV)} {st : List XV} {G : GH} {bc bs : Nat}
theorem w_goto (hd : decode M.1 pc = .ok (.goto off, 3)) (ht : (pc : Int) + off = (tgt : Int)) (k : tvW M d K tgt L st G bc bs) : tvW M d K pc L st G bc bs := by
  intro O ad0 G0 p l e R s m args below meth c Q E ad dom H locs cells slots ls S
  exact lv_goto E.1 E.2.1 hd ht (k O ad0 G0 p l e R s m args below meth c Q E ad dom H locs cells slots ls S)
theorem w_if_eq {a : Int} (hd : decode M.1 pc = .ok (.ifCond .eq off, 3)) (hp : pc + 3 = pc') (ht : (pc : Int) + off = (tgt : Int)) (kt : a = 0 → tvW M d K tgt L st G bc bs) (kf : a ≠ 0 → tvW M d K pc' L st G bc bs) : tvW M d K pc L (xI a :: st) G bc bs := by
  intro O ad0 G0 p l e R s m args below meth c Q E ad dom H locs cells slots ls S
  obtain ⟨hR, hst, hL, hS⟩ := S
  subst hp
  obtain ⟨h0, hst⟩ := tv_oks_c.mp hst
  have hz : rg 0 := ⟨by omega, by omega⟩
  have q := e_eq h0 hz
  rw [← e_0] at q
  exact lv_if_eq E.1 E.2.1 hd ht (fun w => (kt (q.mp w)) O ad0 G0 p l e R s m args below meth c Q E ad dom H locs cells slots ls ⟨hR, hst, hL, hS⟩) (fun w => (kf (fun z => w (q.mpr z))) O ad0 G0 p l e R s m args below meth c Q E ad dom H locs cells slots ls ⟨hR, hst, hL, hS⟩)
theorem w_if_ne {a : Int} (hd : decode M.1 pc = .ok (.ifCond .ne off, 3)) (hp : pc + 3 = pc') (ht : (pc : Int) + off = (tgt : Int)) (kt : a ≠ 0 → tvW M d K tgt L st G bc bs) (kf : a = 0 → tvW M d K pc' L st G bc bs) : tvW M d K pc L (xI a :: st) G bc bs := by
  intro O ad0 G0 p l e R s m args below meth c Q E ad dom H locs cells slots ls S
  obtain ⟨hR, hst, hL, hS⟩ := S
  subst hp
  obtain ⟨h0, hst⟩ := tv_oks_c.mp hst
  have hz : rg 0 := ⟨by omega, by omega⟩
  have q := e_eq h0 hz
  rw [← e_0] at q
  exact lv_if_ne E.1 E.2.1 hd ht (fun w => (kt (fun z => w (q.mpr z))) O ad0 G0 p l e R s m args below meth c Q E ad dom H locs cells slots ls ⟨hR, hst, hL, hS⟩) (fun w => (kf (q.mp w)) O ad0 G0 p l e R s m args below meth c Q E ad dom H locs cells slots ls ⟨hR, hst, hL, hS⟩)
theorem w_if_lt {a : Int} (hd : decode M.1 pc = .ok (.ifCond .lt off, 3)) (hp : pc + 3 = pc') (ht : (pc : Int) + off = (tgt : Int)) (kt : a < 0 → tvW M d K tgt L st G bc bs) (kf : 0 ≤ a → tvW M d K pc' L st G bc bs) : tvW M d K pc L (xI a :: st) G bc bs := by
  intro O ad0 G0 p l e R s m args below meth c Q E ad dom H locs cells slots ls S
  obtain ⟨hR, hst, hL, hS⟩ := S
  subst hp
  obtain ⟨h0, hst⟩ := tv_oks_c.mp hst
  have hz : rg 0 := ⟨by omega, by omega⟩
  have q := e_lt h0 hz
  rw [← e_0] at q
  exact lv_if_lt E.1 E.2.1 hd ht (fun w => (kt (q.mp w)) O ad0 G0 p l e R s m args below meth c Q E ad dom H locs cells slots ls ⟨hR, hst, hL, hS⟩) (fun w => (kf (by have w2 : ¬ _ := fun z => w (q.mpr z); omega)) O ad0 G0 p l e R s m args below meth c Q E ad dom H locs cells slots ls ⟨hR, hst, hL, hS⟩)
theorem w_if_ge {a : Int} (hd : decode M.1 pc = .ok (.ifCond .ge off, 3)) (hp : pc + 3 = pc') (ht : (pc : Int) + off = (tgt : Int)) (kt : 0 ≤ a → tvW M d K tgt L st G bc bs) (kf : a < 0 → tvW M d K pc' L st G bc bs) : tvW M d K pc L (xI a :: st) G bc bs := by
  intro O ad0 G0 p l e R s m args below meth c Q E ad dom H locs cells slots ls S
  obtain ⟨hR, hst, hL, hS⟩ := S
  subst hp
  obtain ⟨h0, hst⟩ := tv_oks_c.mp hst
  have hz : rg 0 := ⟨by omega, by omega⟩
  have q := e_le hz h0
  rw [← e_0] at q
  exact lv_if_ge E.1 E.2.1 hd ht (fun w => (kt (q.mp w)) O ad0 G0 p l e R s m args below meth c Q E ad dom H locs cells slots ls ⟨hR, hst, hL, hS⟩) (fun w => (kf (by have w2 : ¬ _ := fun z => w (q.mpr z); omega)) O ad0 G0 p l e R s m args below meth c Q E ad dom H locs cells slots ls ⟨hR, hst, hL, hS⟩)
theorem w_if_gt {a : Int} (hd : decode M.1 pc = .ok (.ifCond .gt off, 3)) (hp : pc + 3 = pc') (ht : (pc : Int) + off = (tgt : Int)) (kt : 0 < a → tvW M d K tgt L st G bc bs) (kf : a ≤ 0 → tvW M d K pc' L st G bc bs) : tvW M d K pc L (xI a :: st) G bc bs := by
  intro O ad0 G0 p l e R s m args below meth c Q E ad dom H locs cells slots ls S
  obtain ⟨hR, hst, hL, hS⟩ := S
  subst hp
  obtain ⟨h0, hst⟩ := tv_oks_c.mp hst
  have hz : rg 0 := ⟨by omega, by omega⟩
  have q := e_lt hz h0
  rw [← e_0] at q
  exact lv_if_gt E.1 E.2.1 hd ht (fun w => (kt (q.mp w)) O ad0 G0 p l e R s m args below meth c Q E ad dom H locs cells slots ls ⟨hR, hst, hL, hS⟩) (fun w => (kf (by have w2 : ¬ _ := fun z => w (q.mpr z); omega)) O ad0 G0 p l e R s m args below meth c Q E ad dom H locs cells slots ls ⟨hR, hst, hL, hS⟩)
theorem w_if_le {a : Int} (hd : decode M.1 pc = .ok (.ifCond .le off, 3)) (hp : pc + 3 = pc') (ht : (pc : Int) + off = (tgt : Int)) (kt : a ≤ 0 → tvW M d K tgt L st G bc bs) (kf : 0 < a → tvW M d K pc' L st G bc bs) : tvW M d K pc L (xI a :: st) G bc bs := by
  intro O ad0 G0 p l e R s m args below meth c Q E ad dom H locs cells slots ls S
  obtain ⟨hR, hst, hL, hS⟩ := S
  subst hp
  obtain ⟨h0, hst⟩ := tv_oks_c.mp hst
  have hz : rg 0 := ⟨by omega, by omega⟩
  have q := e_le h0 hz
  rw [← e_0] at q
  exact lv_if_le E.1 E.2.1 hd ht (fun w => (kt (q.mp w)) O ad0 G0 p l e R s m args below meth c Q E ad dom H locs cells slots ls ⟨hR, hst, hL, hS⟩) (fun w => (kf (by have w2 : ¬ _ := fun z => w (q.mpr z); omega)) O ad0 G0 p l e R s m args below meth c Q E ad dom H locs cells slots ls ⟨hR, hst, hL, hS⟩)
theorem w_icmp_eq {a b : Int} (hd : decode M.1 pc = .ok (.if_icmp .eq off, 3)) (hp : pc + 3 = pc') (ht : (pc : Int) + off = (tgt : Int)) (kt : a = b → tvW M d K tgt L st G bc bs) (kf : a ≠ b → tvW M d K pc' L st G bc bs) : tvW M d K pc L (xI b :: xI a :: st) G bc bs := by
  intro O ad0 G0 p l e R s m args below meth c Q E ad dom H locs cells slots ls S
  obtain ⟨hR, hst, hL, hS⟩ := S
  subst hp
  obtain ⟨h0, hst⟩ := tv_oks_c.mp hst
  obtain ⟨h1, hst⟩ := tv_oks_c.mp hst
  have q := e_eq h1 h0
  exact lv_icmp_eq E.1 E.2.1 hd ht (fun w => (kt (q.mp w)) O ad0 G0 p l e R s m args below meth c Q E ad dom H locs cells slots ls ⟨hR, hst, hL, hS⟩) (fun w => (kf (fun z => w (q.mpr z))) O ad0 G0 p l e R s m args below meth c Q E ad dom H locs cells slots ls ⟨hR, hst, hL, hS⟩)
theorem w_icmp_ne {a b : Int} (hd : decode M.1 pc = .ok (.if_icmp .ne off, 3)) (hp : pc + 3 = pc') (ht : (pc : Int) + off = (tgt : Int)) (kt : a ≠ b → tvW M d K tgt L st G bc bs) (kf : a = b → tvW M d K pc' L st G bc bs) : tvW M d K pc L (xI b :: xI a :: st) G bc bs := by
  intro O ad0 G0 p l e R s m args below meth c Q E ad dom H locs cells slots ls S
  obtain ⟨hR, hst, hL, hS⟩ := S
  subst hp
  obtain ⟨h0, hst⟩ := tv_oks_c.mp hst
  obtain ⟨h1, hst⟩ := tv_oks_c.mp hst
  have q := e_eq h1 h0
  exact lv_icmp_ne E.1 E.2.1 hd ht (fun w => (kt (fun z => w (q.mpr z))) O ad0 G0 p l e R s m args below meth c Q E ad dom H locs cells slots ls ⟨hR, hst, hL, hS⟩) (fun w => (kf (q.mp w)) O ad0 G0 p l e R s m args below meth c Q E ad dom H locs cells slots ls ⟨hR, hst, hL, hS⟩)
theorem w_icmp_lt {a b : Int} (hd : decode M.1 pc = .ok (.if_icmp .lt off, 3)) (hp : pc + 3 = pc') (ht : (pc : Int) + off = (tgt : Int)) (kt : a < b → tvW M d K tgt L st G bc bs) (kf : b ≤ a → tvW M d K pc' L st G bc bs) : tvW M d K pc L (xI b :: xI a :: st) G bc bs := by
  intro O ad0 G0 p l e R s m args below meth c Q E ad dom H locs cells slots ls S
  obtain ⟨hR, hst, hL, hS⟩ := S
  subst hp
  obtain ⟨h0, hst⟩ := tv_oks_c.mp hst
  obtain ⟨h1, hst⟩ := tv_oks_c.mp hst
  have q := e_lt h1 h0
  exact lv_icmp_lt E.1 E.2.1 hd ht (fun w => (kt (q.mp w)) O ad0 G0 p l e R s m args below meth c Q E ad dom H locs cells slots ls ⟨hR, hst, hL, hS⟩) (fun w => (kf (by have w2 : ¬ _ := fun z => w (q.mpr z); omega)) O ad0 G0 p l e R s m args below meth c Q E ad dom H locs cells slots ls ⟨hR, hst, hL, hS⟩)
theorem w_icmp_ge {a b : Int} (hd : decode M.1 pc = .ok (.if_icmp .ge off, 3)) (hp : pc + 3 = pc') (ht : (pc : Int) + off = (tgt : Int)) (kt : b ≤ a → tvW M d K tgt L st G bc bs) (kf : a < b → tvW M d K pc' L st G bc bs) : tvW M d K pc L (xI b :: xI a :: st) G bc bs := by
  intro O ad0 G0 p l e R s m args below meth c Q E ad dom H locs cells slots ls S
  obtain ⟨hR, hst, hL, hS⟩ := S
  subst hp
  obtain ⟨h0, hst⟩ := tv_oks_c.mp hst
  obtain ⟨h1, hst⟩ := tv_oks_c.mp hst
  have q := e_le h0 h1
  exact lv_icmp_ge E.1 E.2.1 hd ht (fun w => (kt (q.mp w)) O ad0 G0 p l e R s m args below meth c Q E ad dom H locs cells slots ls ⟨hR, hst, hL, hS⟩) (fun w => (kf (by have w2 : ¬ _ := fun z => w (q.mpr z); omega)) O ad0 G0 p l e R s m args below meth c Q E ad dom H locs cells slots ls ⟨hR, hst, hL, hS⟩)
theorem w_icmp_gt {a b : Int} (hd : decode M.1 pc = .ok (.if_icmp .gt off, 3)) (hp : pc + 3 = pc') (ht : (pc : Int) + off = (tgt : Int)) (kt : b < a → tvW M d K tgt L st G bc bs) (kf : a ≤ b → tvW M d K pc' L st G bc bs) : tvW M d K pc L (xI b :: xI a :: st) G bc bs := by
  intro O ad0 G0 p l e R s m args below meth c Q E ad dom H locs cells slots ls S
  obtain ⟨hR, hst, hL, hS⟩ := S
  subst hp
  obtain ⟨h0, hst⟩ := tv_oks_c.mp hst
  obtain ⟨h1, hst⟩ := tv_oks_c.mp hst
  have q := e_lt h0 h1
  exact lv_icmp_gt E.1 E.2.1 hd ht (fun w => (kt (q.mp w)) O ad0 G0 p l e R s m args below meth c Q E ad dom H locs cells slots ls ⟨hR, hst, hL, hS⟩) (fun w => (kf (by have w2 : ¬ _ := fun z => w (q.mpr z); omega)) O ad0 G0 p l e R s m args below meth c Q E ad dom H locs cells slots ls ⟨hR, hst, hL, hS⟩)
theorem w_icmp_le {a b : Int} (hd : decode M.1 pc = .ok (.if_icmp .le off, 3)) (hp : pc + 3 = pc') (ht : (pc : Int) + off = (tgt : Int)) (kt : a ≤ b → tvW M d K tgt L st G bc bs) (kf : b < a → tvW M d K pc' L st G bc bs) : tvW M d K pc L (xI b :: xI a :: st) G bc bs := by
  intro O ad0 G0 p l e R s m args below meth c Q E ad dom H locs cells slots ls S
  obtain ⟨hR, hst, hL, hS⟩ := S
  subst hp
  obtain ⟨h0, hst⟩ := tv_oks_c.mp hst
  obtain ⟨h1, hst⟩ := tv_oks_c.mp hst
  have q := e_le h1 h0
  exact lv_icmp_le E.1 E.2.1 hd ht (fun w => (kt (q.mp w)) O ad0 G0 p l e R s m args below meth c Q E ad dom H locs cells slots ls ⟨hR, hst, hL, hS⟩) (fun w => (kf (by have w2 : ¬ _ := fun z => w (q.mpr z); omega)) O ad0 G0 p l e R s m args below meth c Q E ad dom H locs cells slots ls ⟨hR, hst, hL, hS⟩)
theorem w_ifnull {r : Option Rl} (hd : decode M.1 pc = .ok (.ifnull off, 3)) (hp : pc + 3 = pc') (ht : (pc : Int) + off = (tgt : Int)) (kt : r = none → tvW M d K tgt L st G bc bs) (kf : r ≠ none → tvW M d K pc' L st G bc bs) : tvW M d K pc L (xO r :: st) G bc bs := by
  intro O ad0 G0 p l e R s m args below meth c Q E ad dom H locs cells slots ls S
  obtain ⟨hR, hst, hL, hS⟩ := S
  subst hp
  have hst2 := (tv_oks_c.mp hst).2
  clear hst
  have hst := hst2
  cases r with
  | none => exact lv_ifnullN E.1 E.2.1 hd ht ((kt rfl) O ad0 G0 p l e R s m args below meth c Q E ad dom H locs cells slots ls ⟨hR, hst, hL, hS⟩)
  | some r => exact lv_ifnull E.1 E.2.1 hd ((kf (by intro h; cases h)) O ad0 G0 p l e R s m args below meth c Q E ad dom H locs cells slots ls ⟨hR, hst, hL, hS⟩)
theorem w_ifnonnull {r : Option Rl} (hd : decode M.1 pc = .ok (.ifnonnull off, 3)) (hp : pc + 3 = pc') (ht : (pc : Int) + off = (tgt : Int)) (kt : r ≠ none → tvW M d K tgt L st G bc bs) (kf : r = none → tvW M d K pc' L st G bc bs) : tvW M d K pc L (xO r :: st) G bc bs := by
  intro O ad0 G0 p l e R s m args below meth c Q E ad dom H locs cells slots ls S
  obtain ⟨hR, hst, hL, hS⟩ := S
  subst hp
  have hst2 := (tv_oks_c.mp hst).2
  clear hst
  have hst := hst2
  cases r with
  | none => exact lv_ifnonnullN E.1 E.2.1 hd ((kf rfl) O ad0 G0 p l e R s m args below meth c Q E ad dom H locs cells slots ls ⟨hR, hst, hL, hS⟩)
  | some r => exact lv_ifnonnull E.1 E.2.1 hd ht ((kt (by intro h; cases h)) O ad0 G0 p l e R s m args below meth c Q E ad dom H locs cells slots ls ⟨hR, hst, hL, hS⟩)
theorem w_nn {r : Rl} (hd : decode M.1 pc = .ok (.ifnull off, 3)) (hp : pc + 3 = pc') (k : tvW M d K pc' L st G bc bs) : tvW M d K pc L (xR r :: st) G bc bs := by
  intro O ad0 G0 p l e R s m args below meth c Q E ad dom H locs cells slots ls S
  obtain ⟨hR, hst, hL, hS⟩ := S
  subst hp
  exact lv_ifnull E.1 E.2.1 hd (k O ad0 G0 p l e R s m args below meth c Q E ad dom H locs cells slots ls ⟨hR, (tv_oks_c.mp hst).2, hL, hS⟩)
theorem w_nnT {r : Rl} (hd : decode M.1 pc = .ok (.ifnonnull off, 3)) (ht : (pc : Int) + off = (tgt : Int)) (k : tvW M d K tgt L st G bc bs) : tvW M d K pc L (xR r :: st) G bc bs := by
  intro O ad0 G0 p l e R s m args below meth c Q E ad dom H locs cells slots ls S
  obtain ⟨hR, hst, hL, hS⟩ := S
  exact lv_ifnonnull E.1 E.2.1 hd ht (k O ad0 G0 p l e R s m args below meth c Q E ad dom H locs cells slots ls ⟨hR, (tv_oks_c.mp hst).2, hL, hS⟩)
theorem tv_w_at {aC : Nat → ClassId} {ad : Rl → Nat} {dom : List Rl} {G : GH} {r : Rl} {e : XE} (hr : r ∈ dom) (he : G r = some e) : ∃ i : Nat, dom[i]? = some r ∧ (tv_w aC ad dom G)[i]? = some (ad r, tv_c aC ad e) := by
  obtain ⟨i, hi⟩ := List.getElem?_of_mem hr
  refine ⟨i, hi, ?_⟩
  unfold tv_w
  rw [List.getElem?_map, hi]
  simp [he]
theorem tv_dom {O : tv_O} {ad : Rl → Nat} {dom : List Rl} {G : GH} {H : Heap} (hR : tv_R O ad dom G H) {r : Rl} {e : XE} (he : G r = some e) : r ∈ dom := (hR.2.2.1 r).mpr (by rw [he]; exact fun h => by cases h)
/-- a role with a cell lies behind the start's heap; two of them are apart -/
theorem tv_old {O : tv_O} {ad : Rl → Nat} {dom : List Rl} {G : GH} {H : Heap} (hR : tv_R O ad dom G H) {r : Rl} (h : G r ≠ none) : O.1.heap.size ≤ ad r := by
  cases he : G r with
  | none => exact absurd he h
  | some e =>
    obtain ⟨i, h1, h2⟩ := tv_w_at (aC := O.2.2.1) (ad := ad) (tv_dom hR he) he
    exact hR.2.1.2 i _ h2
theorem tv_apart {O : tv_O} {ad : Rl → Nat} {dom : List Rl} {G : GH} {H : Heap} (hR : tv_R O ad dom G H) {r r' : Rl} (h : G r ≠ none) (h' : G r' ≠ none) (ha : ad r = ad r') : r = r' := by
  cases he : G r with
  | none => exact absurd he h
  | some e =>
    cases he' : G r' with
    | none => exact absurd he' h'
    | some e' =>
      obtain ⟨i, h1, h2⟩ := tv_w_at (aC := O.2.2.1) (ad := ad) (tv_dom hR he) he
      obtain ⟨j, h3, h4⟩ := tv_w_at (aC := O.2.2.1) (ad := ad) (tv_dom hR he') he'
      have hij := hR.2.1.1 i j _ _ h2 h4 ha
      subst hij
      exact Option.some.inj (h1.symm.trans h3)
/-- an old array's role -/
abbrev tv_xr (r : Rl) : Prop := r = (99, 0, 0) ∨ r = (99, 1, 0)
theorem tv_xlt {O : tv_O} (hO : tv_Of O) {n : Nat} (hn : n = 0 ∨ n = 1) : O.2.2.2 n < O.1.heap.size := by
  have h := hO.2.2.1 n
  rcases hn with rfl | rfl
  · obtain ⟨-, cell, h1, -⟩ := h
    exact (Array.getElem?_eq_some_iff.mp h1).1
  · obtain ⟨-, cell, h1, -⟩ := h
    exact (Array.getElem?_eq_some_iff.mp h1).1
theorem tv_ne {O : tv_O} {ad : Rl → Nat} {dom : List Rl} {G : GH} {H : Heap} (hO : tv_Of O) (hR : tv_R O ad dom G H) {r r' : Rl} (h : tv_okr G r) (h' : tv_okr G r') (hx : r.1 = 99 → tv_xr r) (hx' : r'.1 = 99 → tv_xr r') (ha : ad r = ad r') : r = r' := by
  have e0 : ad (99, 0, 0) = O.2.2.2 0 := hR.2.2.2.2.2.1 0 0
  have e1 : ad (99, 1, 0) = O.2.2.2 1 := hR.2.2.2.2.2.1 1 0
  have l0 := tv_xlt hO (Or.inl rfl)
  have l1 := tv_xlt hO (Or.inr rfl)
  have key : ∀ q q' : Rl, G q ≠ none → tv_xr q' → ad q = ad q' → False := by
    intro q q' hq hq' hqq
    have := tv_old hR hq
    rcases hq' with rfl | rfl
    · rw [hqq, e0] at this; omega
    · rw [hqq, e1] at this; omega
  rcases h with h | h <;> rcases h' with h' | h'
  · exact tv_apart hR h h' ha
  · exact (key _ _ h (hx' h') ha).elim
  · exact (key _ _ h' (hx h) ha.symm).elim
  · rcases hx h with rfl | rfl <;> rcases hx' h' with rfl | rfl
    · rfl
    · rw [e0, e1] at ha; exact absurd ha hO.2.2.2.1
    · rw [e0, e1] at ha; exact absurd ha.symm hO.2.2.2.1
    · rfl
theorem tv_e_o {ad : Rl → Nat} (r : Option Rl) : tv_e ad (xO r) = va_rf (r.map ad) := by cases r <;> rfl
theorem tv_mapi {O : tv_O} {ad : Rl → Nat} {dom : List Rl} {G : GH} {H : Heap} (hO : tv_Of O) (hR : tv_R O ad dom G H) {r r' : Option Rl} (h : tv_ok G (xO r)) (h' : tv_ok G (xO r')) (hx : ∀ q, r = some q → q.1 = 99 → tv_xr q) (hx' : ∀ q, r' = some q → q.1 = 99 → tv_xr q) : r.map ad = r'.map ad ↔ r = r' := by
  constructor
  · intro ha
    cases r with
    | none =>
      cases r' with
      | none => rfl
      | some q' => cases ha
    | some q =>
      cases r' with
      | none => cases ha
      | some q' => rw [tv_ne hO hR h h' (hx q rfl) (hx' q' rfl) (Option.some.inj ha)]
  · intro ha; rw [ha]
theorem w_acmp_eq {a b : Option Rl} (hd : decode M.1 pc = .ok (.if_acmp .eq off, 3)) (hp : pc + 3 = pc') (ht : (pc : Int) + off = (tgt : Int)) (hxa : ∀ q, a = some q → q.1 = 99 → tv_xr q) (hxb : ∀ q, b = some q → q.1 = 99 → tv_xr q) (kt : a = b → tvW M d K tgt L st G bc bs) (kf : a ≠ b → tvW M d K pc' L st G bc bs) : tvW M d K pc L (xO b :: xO a :: st) G bc bs := by
  intro O ad0 G0 p l e R s m args below meth c Q E ad dom H locs cells slots ls S
  obtain ⟨hR, hst, hL, hS⟩ := S
  subst hp
  obtain ⟨h0, hst⟩ := tv_oks_c.mp hst
  obtain ⟨h1, hst⟩ := tv_oks_c.mp hst
  have hO : tv_Of O := E.2.2.2.2.2.2.2.1
  have q := tv_mapi hO hR h1 h0 hxa hxb
  rw [List.map_cons, List.map_cons, tv_e_o, tv_e_o]
  exact lv_acmp_eq E.1 E.2.1 hd ht (fun w => (kt (q.mp w)) O ad0 G0 p l e R s m args below meth c Q E ad dom H locs cells slots ls ⟨hR, hst, hL, hS⟩) (fun w => (kf (fun z => w (q.mpr z))) O ad0 G0 p l e R s m args below meth c Q E ad dom H locs cells slots ls ⟨hR, hst, hL, hS⟩)
theorem w_acmp_ne {a b : Option Rl} (hd : decode M.1 pc = .ok (.if_acmp .ne off, 3)) (hp : pc + 3 = pc') (ht : (pc : Int) + off = (tgt : Int)) (hxa : ∀ q, a = some q → q.1 = 99 → tv_xr q) (hxb : ∀ q, b = some q → q.1 = 99 → tv_xr q) (kt : a ≠ b → tvW M d K tgt L st G bc bs) (kf : a = b → tvW M d K pc' L st G bc bs) : tvW M d K pc L (xO b :: xO a :: st) G bc bs := by
  intro O ad0 G0 p l e R s m args below meth c Q E ad dom H locs cells slots ls S
  obtain ⟨hR, hst, hL, hS⟩ := S
  subst hp
  obtain ⟨h0, hst⟩ := tv_oks_c.mp hst
  obtain ⟨h1, hst⟩ := tv_oks_c.mp hst
  have hO : tv_Of O := E.2.2.2.2.2.2.2.1
  have q := tv_mapi hO hR h1 h0 hxa hxb
  rw [List.map_cons, List.map_cons, tv_e_o, tv_e_o]
  exact lv_acmp_ne E.1 E.2.1 hd ht (fun w => (kt (fun z => w (q.mpr z))) O ad0 G0 p l e R s m args below meth c Q E ad dom H locs cells slots ls ⟨hR, hst, hL, hS⟩) (fun w => (kf (q.mp w)) O ad0 G0 p l e R s m args below meth c Q E ad dom H locs cells slots ls ⟨hR, hst, hL, hS⟩)
/-- one and the same object -/
theorem w_acmpS_ne {a : Option Rl} (hd : decode M.1 pc = .ok (.if_acmp .ne off, 3)) (hp : pc + 3 = pc') (ht : (pc : Int) + off = (tgt : Int)) (k : tvW M d K pc' L st G bc bs) : tvW M d K pc L (xO a :: xO a :: st) G bc bs := by
  intro O ad0 G0 p l e R s m args below meth c Q E ad dom H locs cells slots ls S
  obtain ⟨hR, hst, hL, hS⟩ := S
  subst hp
  rw [List.map_cons, List.map_cons, tv_e_o]
  exact lv_acmp_ne E.1 E.2.1 hd ht (fun w => absurd rfl w) (fun w => k O ad0 G0 p l e R s m args below meth c Q E ad dom H locs cells slots ls ⟨hR, (tv_oks_c.mp (tv_oks_c.mp hst).2).2, hL, hS⟩)
def tv_cat : XV → Nat
  | .inr (.inr _) => 2
  | _ => 1
theorem tv_cat1 {v : XV} (ad : Rl → Nat) (h : tv_cat v = 1) : (tv_e ad v).category = 1 := by
  match v, h with
  | .inl z, _ => rfl
  | .inr (.inl none), _ => rfl
  | .inr (.inl (some r)), _ => rfl
theorem w_dup {x : XV} (hd : decode M.1 pc = .ok (.dup, 1)) (hp : pc + 1 = pc') (h_x : tv_cat x = 1) (k : tvW M d K pc' L (x :: x :: st) G bc bs) : tvW M d K pc L (x :: st) G bc bs := by
  intro O ad0 G0 p l e R s m args below meth c Q E ad dom H locs cells slots ls S
  obtain ⟨hR, hst, hL, hS⟩ := S
  subst hp
  obtain ⟨o_x, hst⟩ := tv_oks_c.mp hst
  exact lv_dup E.1 E.2.1 hd (tv_cat1 ad h_x) (k O ad0 G0 p l e R s m args below meth c Q E ad dom H locs cells slots ls ⟨hR, tv_oks_c.mpr ⟨o_x, tv_oks_c.mpr ⟨o_x, hst⟩⟩, hL, hS⟩)
theorem w_pop {x : XV} (hd : decode M.1 pc = .ok (.pop, 1)) (hp : pc + 1 = pc') (h_x : tv_cat x = 1) (k : tvW M d K pc' L (st) G bc bs) : tvW M d K pc L (x :: st) G bc bs := by
  intro O ad0 G0 p l e R s m args below meth c Q E ad dom H locs cells slots ls S
  obtain ⟨hR, hst, hL, hS⟩ := S
  subst hp
  obtain ⟨o_x, hst⟩ := tv_oks_c.mp hst
  exact lv_pop E.1 E.2.1 hd (tv_cat1 ad h_x) (k O ad0 G0 p l e R s m args below meth c Q E ad dom H locs cells slots ls ⟨hR, hst, hL, hS⟩)
theorem w_dup_x1 {x y : XV} (hd : decode M.1 pc = .ok (.dup_x1, 1)) (hp : pc + 1 = pc') (h_x : tv_cat x = 1) (h_y : tv_cat y = 1) (k : tvW M d K pc' L (x :: y :: x :: st) G bc bs) : tvW M d K pc L (x :: y :: st) G bc bs := by
  intro O ad0 G0 p l e R s m args below meth c Q E ad dom H locs cells slots ls S
  obtain ⟨hR, hst, hL, hS⟩ := S
  subst hp
  obtain ⟨o_x, hst⟩ := tv_oks_c.mp hst
  obtain ⟨o_y, hst⟩ := tv_oks_c.mp hst
  exact lv_dup_x1 E.1 E.2.1 hd (tv_cat1 ad h_x) (tv_cat1 ad h_y) (k O ad0 G0 p l e R s m args below meth c Q E ad dom H locs cells slots ls ⟨hR, tv_oks_c.mpr ⟨o_x, tv_oks_c.mpr ⟨o_y, tv_oks_c.mpr ⟨o_x, hst⟩⟩⟩, hL, hS⟩)
theorem w_dup2 {x y : XV} (hd : decode M.1 pc = .ok (.dup2, 1)) (hp : pc + 1 = pc') (h_x : tv_cat x = 1) (h_y : tv_cat y = 1) (k : tvW M d K pc' L (x :: y :: x :: y :: st) G bc bs) : tvW M d K pc L (x :: y :: st) G bc bs := by
  intro O ad0 G0 p l e R s m args below meth c Q E ad dom H locs cells slots ls S
  obtain ⟨hR, hst, hL, hS⟩ := S
  subst hp
  obtain ⟨o_x, hst⟩ := tv_oks_c.mp hst
  obtain ⟨o_y, hst⟩ := tv_oks_c.mp hst
  exact lv_dup2_11 E.1 E.2.1 hd (tv_cat1 ad h_x) (tv_cat1 ad h_y) (k O ad0 G0 p l e R s m args below meth c Q E ad dom H locs cells slots ls ⟨hR, tv_oks_c.mpr ⟨o_x, tv_oks_c.mpr ⟨o_y, tv_oks_c.mpr ⟨o_x, tv_oks_c.mpr ⟨o_y, hst⟩⟩⟩⟩, hL, hS⟩)
theorem w_tableOut {a dflt lo hi : Int} {offs : Array Int} {len : Nat} (hd : decode M.1 pc = .ok (.tableswitch dflt lo hi offs, len)) (ht : (pc : Int) + dflt = (tgt : Int)) (h : a < lo ∨ hi < a) (k : tvW M d K tgt L st G bc bs) : tvW M d K pc L (xI a :: st) G bc bs := by
  intro O ad0 G0 p l e R s m args below meth c Q E ad dom H locs cells slots ls S
  obtain ⟨hR, hst, hL, hS⟩ := S
  obtain ⟨h0, hst⟩ := tv_oks_c.mp hst
  exact lv_tableOut E.1 E.2.1 hd (by rw [e_toInt h0]; exact h) ht (k O ad0 G0 p l e R s m args below meth c Q E ad dom H locs cells slots ls ⟨hR, hst, hL, hS⟩)
theorem w_tableIn {a dflt lo hi o : Int} {offs : Array Int} {len : Nat} (z : Int) (hd : decode M.1 pc = .ok (.tableswitch dflt lo hi offs, len)) (hz : a = z) (h1 : ¬ z < lo) (h2 : ¬ hi < z) (ho : offs[(z - lo).toNat]? = some o) (ht : (pc : Int) + o = (tgt : Int)) (k : tvW M d K tgt L st G bc bs) : tvW M d K pc L (xI a :: st) G bc bs := by
  intro O ad0 G0 p l e R s m args below meth c Q E ad dom H locs cells slots ls S
  obtain ⟨hR, hst, hL, hS⟩ := S
  obtain ⟨h0, hst⟩ := tv_oks_c.mp hst
  subst hz
  exact lv_tableIn E.1 E.2.1 hd (by rw [e_toInt h0]; exact h1) (by rw [e_toInt h0]; exact h2) (by rw [e_toInt h0]; exact ho) ht (k O ad0 G0 p l e R s m args below meth c Q E ad dom H locs cells slots ls ⟨hR, hst, hL, hS⟩)
theorem w_ret {ins : Instr} {v : Option XV} (hd : decode M.1 pc = .ok (ins, 1)) (hr : tv_ri M.2.2.2.1 v ins) (hv : st = v.toList) (k : K v G) : tvW M d K pc L st G bc bs := by
  intro O ad0 G0 p l e R s m args below meth c Q E ad dom H locs cells slots ls S
  obtain ⟨hR, hst, hL, hlv, hlen, hS, hx, hc, hs⟩ := S
  subst hv
  obtain ⟨-, -, -, -, -, -, -, -, -, -, hret⟩ := E
  refine hret v ad dom G H locs cells slots pc ls ins k hR ?_ hS hx (by omega) (by omega) hd hr
  intro x hx2
  subst hx2
  exact hst x (by simp)
theorem w_ireturn {z : Int} (hd : decode M.1 pc = .ok (.ireturn, 1)) (hr : M.2.2.2.1 = some .int) (k : K (some (xI z)) G) : tvW M d K pc L [xI z] G bc bs := w_ret (v := some (xI z)) hd (by rw [hr]; rfl) rfl k
theorem w_zreturn {z : Int} (hd : decode M.1 pc = .ok (.ireturn, 1)) (hr : M.2.2.2.1 = some .boolean) (hz : z = 0 ∨ z = 1) (k : K (some (xI z)) G) : tvW M d K pc L [xI z] G bc bs := w_ret (v := some (xI z)) hd (by rw [hr]; exact ⟨rfl, hz⟩) rfl k
theorem w_lreturn {z : Int} (hd : decode M.1 pc = .ok (.lreturn, 1)) (hr : M.2.2.2.1 = some .long) (k : K (some (xL z)) G) : tvW M d K pc L [xL z] G bc bs := w_ret (v := some (xL z)) hd (by rw [hr]; rfl) rfl k
theorem w_areturn {r : Option Rl} {C : String} (hd : decode M.1 pc = .ok (.areturn, 1)) (hr : M.2.2.2.1 = some (.object C)) (k : K (some (xO r)) G) : tvW M d K pc L [xO r] G bc bs := w_ret (v := some (xO r)) hd (by rw [hr]; rfl) rfl k
theorem w_Areturn {r : Option Rl} {t : FieldType} (hd : decode M.1 pc = .ok (.areturn, 1)) (hr : M.2.2.2.1 = some (.array t)) (k : K (some (xO r)) G) : tvW M d K pc L [xO r] G bc bs := w_ret (v := some (xO r)) hd (by rw [hr]; rfl) rfl k
theorem w_return (hd : decode M.1 pc = .ok (.return_, 1)) (hr : M.2.2.2.1 = none) (k : K none G) : tvW M d K pc L [] G bc bs := w_ret (v := none) hd (by rw [hr]; rfl) rfl k
/-- less is asked for than is left -/
theorem w_less {bc' bs' : Nat} (h1 : bc' ≤ bc) (h2 : bs' ≤ bs) (k : tvW M d K pc L st G bc' bs') : tvW M d K pc L st G bc bs := by
  intro O ad0 G0 p l e R s m args below meth c Q E ad dom H locs cells slots ls S
  obtain ⟨hR, hst, hL, hlv, hlen, hS, hx, hc, hs⟩ := S
  exact k O ad0 G0 p l e R s m args below meth c Q E ad dom H locs cells slots ls ⟨hR, hst, hL, hlv, hlen, hS, hx, by omega, by omega⟩
theorem w_G {G' : GH} (h : G = G') (k : tvW M d K pc L st G' bc bs) : tvW M d K pc L st G bc bs := h ▸ k
theorem w_st {st' : List XV} (h : st = st') (k : tvW M d K pc L st' G bc bs) : tvW M d K pc L st G bc bs := h ▸ k
theorem w_L (h : L = L') (k : tvW M d K pc L' st G bc bs) : tvW M d K pc L st G bc bs := h ▸ k
/-- what is known of all values on the way: ranges of locals, of what the heap holds -/
theorem w_okv (k : tv_okL G L → tv_oks G st → (∀ r e, G r = some e → tv_okE G e) → tvW M d K pc L st G bc bs) : tvW M d K pc L st G bc bs := by
  intro O ad0 G0 p l e R s m args below meth c Q E ad dom H locs cells slots ls S
  exact k S.2.2.1 S.2.1 S.1.2.2.2.1 O ad0 G0 p l e R s m args below meth c Q E ad dom H locs cells slots ls S
end BRANCH
