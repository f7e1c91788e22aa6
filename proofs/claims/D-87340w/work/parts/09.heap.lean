set_option maxRecDepth 10000
/-! cells: reading, writing, making -/
def gset (G : GH) (r : Rl) (e : XE) : GH := fun q => if q = r then some e else G q
theorem gset_s (G : GH) (r : Rl) (e : XE) : gset G r e r = some e := if_pos rfl
theorem gset_n {G : GH} {r q : Rl} {e : XE} (h : q ≠ r) : gset G r e q = G q := if_neg h
def iset (f : Int → Int) (i v : Int) : Int → Int := fun j => if j = i then v else f j
def rset (f : Int → Option Rl) (i : Int) (v : Option Rl) : Int → Option Rl := fun j => if j = i then v else f j
theorem cls_ok : ∀ (ci : Nat) (q : vw_C), vwCl[ci]? = some q → (∀ w ∈ u_ws q.1 q.2.1 q.2.2, w ∈ lw_all) ∧ (∀ a, a < q.2.2 → ∀ b, b < q.2.2 → a ≠ b → (q.2.1 a).2.1 ≠ (q.2.1 b).2.1) ∧ ∃ ty : Nat → FieldType, ∀ k, k < q.2.2 → parseFieldDescriptor (q.2.1 k).2.2.1 = some (ty k) := by
  intro ci q h
  match ci, h with
  | 0, h => cases h; exact ⟨in_X0, nmX0, _, tyX0_ok⟩
  | 1, h => cases h; exact ⟨in_X1, nmX1, _, tyX1_ok⟩
  | 2, h => cases h; exact ⟨in_X2, nmX2, _, tyX2_ok⟩
  | 3, h => cases h; exact ⟨in_X4, nmX4, _, tyX4_ok⟩
  | 4, h => cases h; exact ⟨in_X5, nmX5, _, tyX5_ok⟩
  | 5, h => cases h; exact ⟨in_X6, nmX6, _, tyX6_ok⟩
  | 6, h => cases h; exact ⟨in_X7, nmX7, _, tyX7_ok⟩
  | 7, h => cases h; exact ⟨in_X8, nmX8, _, tyX8_ok⟩
  | 8, h => cases h; exact ⟨in_X10, nmX10, _, tyX10_ok⟩
  | 9, h => cases h; exact ⟨in_J2, nmJ2, _, tyJ2_ok⟩
  | 10, h => cases h; exact ⟨in_J11, nmJ11, _, tyJ11_ok⟩
  | 11, h => cases h; exact ⟨in_X9, nmX9, _, tyX9_ok⟩
  | n + 12, h => simp at h
theorem tv_okr_set {G : GH} {r q : Rl} {e : XE} (h : tv_okr G q) : tv_okr (gset G r e) q := by
  rcases h with h | h
  · left
    unfold gset
    split
    · exact fun h => by cases h
    · exact h
  · exact Or.inr h
theorem tv_ok_mono {G G' : GH} (h : ∀ q, tv_okr G q → tv_okr G' q) {v : XV} (hv : tv_ok G v) : tv_ok G' v := by
  match v, hv with
  | .inl z, hv => exact hv
  | .inr (.inl none), _ => exact trivial
  | .inr (.inl (some r)), hv => exact h r hv
  | .inr (.inr z), hv => exact hv
theorem tv_okE_mono {G G' : GH} (h : ∀ q, tv_okr G q → tv_okr G' q) {e : XE} (he : tv_okE G e) : tv_okE G' e := by
  match e, he with
  | .inl (ci, fs), he => exact fun v hv => tv_ok_mono h (he v hv)
  | .inr (.inl (t, n, f)), he => exact he
  | .inr (.inr (t, n, f)), he => exact ⟨he.1, fun i r hr => h r (he.2 i r hr)⟩
theorem tv_oks_mono {G G' : GH} (h : ∀ q, tv_okr G q → tv_okr G' q) {st : List XV} (hs : tv_oks G st) : tv_oks G' st := fun v hv => tv_ok_mono h (hs v hv)
theorem tv_okL_mono {G G' : GH} (h : ∀ q, tv_okr G q → tv_okr G' q) {L : List (Option XV)} (hs : tv_okL G L) : tv_okL G' L := fun v hv => tv_ok_mono h (hs v hv)
theorem tv_e_ext {G : GH} {ad ad' : Rl → Nat} (h : ∀ q, tv_okr G q → ad' q = ad q) {v : XV} (hv : tv_ok G v) : tv_e ad' v = tv_e ad v := by
  match v, hv with
  | .inl z, _ => rfl
  | .inr (.inl none), _ => rfl
  | .inr (.inl (some r)), hv => show Value.ref (ad' r) = Value.ref (ad r); rw [h r hv]
  | .inr (.inr z), _ => rfl
theorem tv_c_ext {G : GH} {aC : Nat → ClassId} {ad ad' : Rl → Nat} (h : ∀ q, tv_okr G q → ad' q = ad q) {e : XE} (he : tv_okE G e) : tv_c aC ad' e = tv_c aC ad e := by
  match e, he with
  | .inl (ci, fs), he =>
    show Sum.inr (ci, fs.map (tv_e ad')) = Sum.inr (ci, fs.map (tv_e ad))
    rw [List.map_congr_left (fun v hv => tv_e_ext h (he v hv))]
  | .inr (.inl (t, n, f)), _ => rfl
  | .inr (.inr (t, n, f)), he =>
    have : (fun j : Nat => (f j).map ad') = fun j : Nat => (f j).map ad := by
      funext j
      cases hf : f j with
      | none => rfl
      | some r => show some (ad' r) = some (ad r); rw [h r (he.2 j r hf)]
    show Sum.inl (aC t, n, Sum.inr (Sum.inr (Sum.inr (Sum.inr (fun j : Nat => (f j).map ad'))))) = Sum.inl (aC t, n, Sum.inr (Sum.inr (Sum.inr (Sum.inr (fun j : Nat => (f j).map ad)))))
    rw [this]
theorem tv_map_ext {G : GH} {ad ad' : Rl → Nat} (h : ∀ q, tv_okr G q → ad' q = ad q) {st : List XV} (hs : tv_oks G st) : st.map (tv_e ad') = st.map (tv_e ad) := List.map_congr_left (fun v hv => tv_e_ext h (hs v hv))
theorem tv_pr_ext {G : GH} {ad ad' : Rl → Nat} (h : ∀ q, tv_okr G q → ad' q = ad q) : ∀ {L : List (Option XV)} {i : Nat}, tv_okL G L → tv_pr ad' i L = tv_pr ad i L
  | [], _, _ => rfl
  | none :: L, i, hL => by
    show tv_pr ad' (i + 1) L = tv_pr ad (i + 1) L
    exact tv_pr_ext h (fun v hv => hL v (List.mem_cons_of_mem _ hv))
  | some v :: L, i, hL => by
    show (i, tv_e ad' v) :: tv_pr ad' (i + 1) L = (i, tv_e ad v) :: tv_pr ad (i + 1) L
    rw [tv_e_ext h (hL v List.mem_cons_self), tv_pr_ext h (fun v hv => hL v (List.mem_cons_of_mem _ hv))]
theorem tv_w_set {O : tv_O} {ad : Rl → Nat} {dom : List Rl} {G : GH} {H : Heap} (hR : tv_R O ad dom G H) {r : Rl} {e0 e : XE} (he : G r = some e0) {i : Nat} (hi : dom[i]? = some r) : (tv_w O.2.2.1 ad dom G).set i (ad r, tv_c O.2.2.1 ad e) = tv_w O.2.2.1 ad dom (gset G r e) := by
  apply List.ext_getElem?
  intro j
  have hil : i < dom.length := (List.getElem?_eq_some_iff.mp hi).1
  by_cases hj : j = i
  · subst hj
    rw [List.getElem?_set_self (by unfold tv_w; rw [List.length_map]; exact hil)]
    unfold tv_w
    rw [List.getElem?_map, hi]
    simp [gset_s]
  · rw [List.getElem?_set_ne (Ne.symm hj)]
    unfold tv_w
    rw [List.getElem?_map, List.getElem?_map]
    cases hd : dom[j]? with
    | none => rfl
    | some q =>
      have hq : q ≠ r := by
        intro hqr
        subst hqr
        have h1 : (tv_w O.2.2.1 ad dom G)[j]? = some (ad q, tv_c O.2.2.1 ad ((G q).getD (.inl (0, [])))) := by unfold tv_w; rw [List.getElem?_map, hd]; rfl
        have h2 : (tv_w O.2.2.1 ad dom G)[i]? = some (ad q, tv_c O.2.2.1 ad ((G q).getD (.inl (0, [])))) := by unfold tv_w; rw [List.getElem?_map, hi]; rfl
        exact hj (hR.2.1.1 j i _ _ h1 h2 rfl)
      simp [gset_n hq]
/-- the start's heap stands behind a write -/
theorem tv_frm {O : tv_O} {s : State} {H : Heap} {locs : List Loc} (h0 : O.1.heap.size ≤ s.heap.size ∧ ∀ q, q < O.1.heap.size → s.heap[q]? = O.1.heap[q]?) (hS : va_S (tv_A O) s.heap H locs) : O.1.heap.size ≤ H.size ∧ ∀ q, q < O.1.heap.size → H[q]? = O.1.heap[q]? :=
  ⟨Nat.le_trans h0.1 hS.1, fun q hq => by rw [hS.2.1 q (Nat.lt_of_lt_of_le hq h0.1) (by intro h; exact absurd h (Nat.not_le.mpr hq)), h0.2 q hq]⟩
theorem tv_R_set {O : tv_O} {ad : Rl → Nat} {dom : List Rl} {G : GH} {H H1 : Heap} (hR : tv_R O ad dom G H) {r : Rl} {e0 e : XE} (he : G r = some e0) {i : Nat} (hi : dom[i]? = some r) (hok : tv_okE G e)
    (hP1 : va_P O.2.1 vwCl ((tv_w O.2.2.1 ad dom G).set i (ad r, tv_c O.2.2.1 ad e)) H1) (hD1 : va_D (tv_A O) ((tv_w O.2.2.1 ad dom G).set i (ad r, tv_c O.2.2.1 ad e))) (hf : O.1.heap.size ≤ H1.size ∧ ∀ q, q < O.1.heap.size → H1[q]? = O.1.heap[q]?) : tv_R O ad dom (gset G r e) H1 := by
  rw [tv_w_set hR he hi] at hP1 hD1
  refine ⟨hP1, hD1, ?_, ?_, hR.2.2.2.2.1, hR.2.2.2.2.2.1, hf.1, hf.2⟩
  · intro q
    rw [hR.2.2.1 q]
    unfold gset
    split
    · rename_i h; subst h; rw [he]; simp
    · rfl
  · intro q e' h
    unfold gset at h
    split at h
    · cases h; exact tv_okE_mono (fun _ => tv_okr_set) hok
    · exact tv_okE_mono (fun _ => tv_okr_set) (hR.2.2.2.1 q e' h)
theorem tv_R_push {O : tv_O} {ad : Rl → Nat} {dom : List Rl} {G : GH} {H H1 : Heap} (hR : tv_R O ad dom G H) {r : Rl} {e : XE} {q : Nat} (hr : G r = none) (h99 : r.1 ≠ 99) (hok : tv_okE G e)
    (hP1 : va_P O.2.1 vwCl (tv_w O.2.2.1 ad dom G ++ [(q, tv_c O.2.2.1 ad e)]) H1) (hD1 : va_D (tv_A O) (tv_w O.2.2.1 ad dom G ++ [(q, tv_c O.2.2.1 ad e)])) (hf : O.1.heap.size ≤ H1.size ∧ ∀ q, q < O.1.heap.size → H1[q]? = O.1.heap[q]?) :
    ∃ ad' : Rl → Nat, ad' r = q ∧ (∀ x, tv_okr G x → ad' x = ad x) ∧ tv_R O ad' (dom ++ [r]) (gset G r e) H1 := by
  have hne : ∀ x, tv_okr G x → x ≠ r := by
    intro x hx hxr
    subst hxr
    rcases hx with h | h
    · exact h hr
    · exact h99 h
  have hnd : r ∉ dom := fun h => (hR.2.2.1 r).mp h hr
  have had : ∀ x, tv_okr G x → (fun x => if x = r then q else ad x) x = ad x := fun x hx => if_neg (hne x hx)
  refine ⟨fun x => if x = r then q else ad x, if_pos rfl, had, ?_⟩
  have hw : tv_w O.2.2.1 (fun x => if x = r then q else ad x) (dom ++ [r]) (gset G r e) = tv_w O.2.2.1 ad dom G ++ [(q, tv_c O.2.2.1 ad e)] := by
    unfold tv_w
    rw [List.map_append]
    congr 1
    · apply List.map_congr_left
      intro x hx
      have hxr : x ≠ r := fun h => hnd (h ▸ hx)
      show ((if x = r then q else ad x), tv_c O.2.2.1 _ ((gset G r e x).getD (.inl (0, [])))) = _
      rw [if_neg hxr, gset_n hxr]
      cases he : G x with
      | none => exact absurd he ((hR.2.2.1 x).mp hx)
      | some e' => show (ad x, tv_c O.2.2.1 _ e') = (ad x, tv_c O.2.2.1 ad e'); rw [tv_c_ext had (hR.2.2.2.1 x e' he)]
    · show [((if r = r then q else ad r), tv_c O.2.2.1 _ ((gset G r e r).getD (.inl (0, []))))] = _
      rw [if_pos rfl, gset_s]
      show [(q, tv_c O.2.2.1 _ e)] = _
      rw [tv_c_ext had hok]
  refine ⟨by rw [hw]; exact hP1, by rw [hw]; exact hD1, ?_, ?_, ?_, ?_, hf.1, hf.2⟩
  · intro x
    rw [List.mem_append, List.mem_singleton, hR.2.2.1 x]
    unfold gset
    split
    · rename_i h; simp [h]
    · rename_i h; simp [h]
  · intro x e' h
    unfold gset at h
    split at h
    · cases h; exact tv_okE_mono (fun _ => tv_okr_set) hok
    · exact tv_okE_mono (fun _ => tv_okr_set) (hR.2.2.2.1 x e' h)
  · intro x hx
    rcases List.mem_append.mp hx with h | h
    · exact hR.2.2.2.2.1 x h
    · rw [List.mem_singleton.mp h]; exact h99
  · intro n b
    show (if ((99, n, b) : Rl) = r then q else ad (99, n, b)) = _
    rw [if_neg (fun h : ((99, n, b) : Rl) = r => h99 (by rw [← h]))]
    exact hR.2.2.2.2.2.1 n b
theorem tv_ext_set {ad0 ad : Rl → Nat} {G0 G : GH} {r : Rl} {e : XE} (h : tv_ext ad0 G0 ad G) : tv_ext ad0 G0 ad (gset G r e) := fun x hx => ⟨(h x hx).1, tv_okr_set (h x hx).2⟩
theorem tv_ext_push {ad0 ad ad' : Rl → Nat} {G0 G : GH} {r : Rl} {e : XE} (h : tv_ext ad0 G0 ad G) (ha : ∀ x, tv_okr G x → ad' x = ad x) : tv_ext ad0 G0 ad' (gset G r e) := fun x hx => ⟨(ha x (h x hx).2).trans (h x hx).1, tv_okr_set (h x hx).2⟩
/-- a field's link: class own, entry idx, is field k of class ci -/
def tv_fl (own : String) (idx ci k : Nat) : Prop := ∃ (C : String) (T : u_T) (N : Nat) (ref : String), vwCl[ci]? = some (C, T, N) ∧ k < N ∧ (Cond.fieldLink own idx ref (T k).2.1 (T k).2.2.1 ∈ lw_all ∨ ∃ host, Cond.fieldLinkNest own idx ref (T k).2.1 (T k).2.2.1 host ∈ lw_tbl) ∧ (ref = (T k).1 ∨ Cond.sameField ref (T k).1 (T k).2.1 (T k).2.2.1 ∈ lw_all)
def tv_ft : FieldType → XV → Prop
  | .int, .inl _ => True
  | .boolean, .inl z => z = 0 ∨ z = 1
  | .long, .inr (.inr _) => True
  | .object _, .inr (.inl _) => True
  | .array _, .inr (.inl _) => True
  | _, _ => False
theorem tv_ft_ok {ty : FieldType} {v : XV} (ad : Rl → Nat) (h : tv_ft ty v) : narrow ty (tv_e ad v) = tv_e ad v ∧ fits ty (tv_e ad v) = true := by
  match ty, v, h with
  | .int, .inl _, _ => exact ⟨rfl, rfl⟩
  | .boolean, .inl z, h => 
    rcases h with rfl | rfl
    · exact ⟨show narrow .boolean (.int (Int32.ofInt 0)) = .int (Int32.ofInt 0) by decide +kernel, show fits .boolean (.int (Int32.ofInt 0)) = true by decide +kernel⟩
    · exact ⟨show narrow .boolean (.int (Int32.ofInt 1)) = .int (Int32.ofInt 1) by decide +kernel, show fits .boolean (.int (Int32.ofInt 1)) = true by decide +kernel⟩
  | .long, .inr (.inr _), _ => exact ⟨rfl, rfl⟩
  | .object _, .inr (.inl none), _ => exact ⟨rfl, rfl⟩
  | .object _, .inr (.inl (some _)), _ => exact ⟨rfl, rfl⟩
  | .array _, .inr (.inl none), _ => exact ⟨rfl, rfl⟩
  | .array _, .inr (.inl (some _)), _ => exact ⟨rfl, rfl⟩
theorem tv_K {O : tv_O} {s : State} (hO : tv_Of O) (hW : O.1.WarmedH s.vm) : va_K O.2.1 vwCl (tv_tys O.2.2.1) s := va_K.moved hW.alike hO.2.1
section HEAP
variable {M : tv_M} {d : Nat} {K : Option XV → GH → Prop} {pc pc' tgt : Nat} {off : Int} {L L' : List (Option XV)} {st : List XV} {G : GH} {bc bs : Nat}
theorem w_get {idx ci : Nat} {r : Rl} {fs : List XV} {v : XV} (k : Nat) (hd : decode M.1 pc = .ok (.getfield idx, 3)) (hp : pc + 3 = pc') (hf : tv_fl M.2.2.1 idx ci k) (hG : G r = some (xob ci fs)) (hv : fs[k]? = some v) (kk : tvW M d K pc' L (v :: st) G bc bs) : tvW M d K pc L (xR r :: st) G bc bs := by
  intro O ad0 G0 p l e R s m args below meth c Q E ad dom H locs cells slots ls S
  obtain ⟨hR, hst, hL, hS⟩ := S
  subst hp
  obtain ⟨hx, hb, hml, hown, hts, hini, hW, hO, hrm, hfr, hret⟩ := E
  obtain ⟨C, T, N, ref, hc, hk, hlink, hsame⟩ := hf
  obtain ⟨hin, hnm, ty, hty⟩ := cls_ok ci _ hc
  obtain ⟨i, hi, hw⟩ := tv_w_at (aC := O.2.2.1) (ad := ad) (tv_dom hR hG) hG
  have hvok : tv_ok G v := hR.2.2.2.1 r _ hG v (List.mem_of_getElem? hv)
  have kk := kk O ad0 G0 p l e R s m args below meth c Q ⟨hx, hb, hml, hown, hts, hini, hW, hO, hrm, hfr, hret⟩ ad dom H locs cells slots ls ⟨hR, tv_oks_c.mpr ⟨hvok, (tv_oks_c.mp hst).2⟩, hL, hS⟩
  have hs : ∀ x, s.fieldFound? (T k).1 (T k).2.1 (T k).2.2.1 = some x → s.fieldFound? ref (T k).2.1 (T k).2.2.1 = some x := by
    rcases hsame with rfl | h
    · exact fun _ h => h
    · exact u_same (hts _ h)
  rcases hlink with hlink | ⟨host, hlink⟩
  · exact va_get (D := O.2.1) (ci := ci) (v := tv_e ad v) (C := C) (T := T) (N := N) hx hb hts hin hown (tv_K hO hW) hR.1 i hw hc k hk (hts _ hlink) hs (by rw [List.getElem?_map, hv]; rfl) hd kk
  · obtain ⟨b0, hb0, -⟩ := hO.1
    exact va_getN (D := O.2.1) (ci := ci) (v := tv_e ad v) (C := C) (T := T) (N := N) hx hb hts hin hown (tv_K hO hW) hR.1 i hw hc k hk (va_Nw.use rfl (va_Nw.warmF hW (va_Nw.of rfl (hb0 _ hlink)))) hs (by rw [List.getElem?_map, hv]; rfl) hd kk
end HEAP
