set_option maxRecDepth 10000
section HEAP3
variable {M : tv_M} {d : Nat} {K : Option XV → GH → Prop} {pc pc' tgt : Nat} {off : Int} {L L' : List (Option XV)} {st : List XV} {G : GH} {bc bs : Nat}
theorem rset_ok {G : GH} {f : Int → Option Rl} {i : Int} {v : Option Rl} (hf : ∀ (i : Int) (r : Rl), f i = some r → tv_okr G r) (hv : tv_ok G (xO v)) : ∀ (j : Int) (r : Rl), rset f i v j = some r → tv_okr G r := by
  intro j r h
  unfold rset at h
  split at h
  · subst h; exact hv
  · exact hf j r h
theorem w_aastN {r : Rl} {t n : Nat} {f : Int → Option Rl} {i : Int} (hd : decode M.1 pc = .ok (.aastore, 1)) (hp : pc + 1 = pc') (hG : G r = some (xra t n f)) (ht : t < 8) (h0 : 0 ≤ i) (h1 : i < n) (kk : tvW M d K pc' L st (gset G r (xra t n (rset f i none))) bc bs) : tvW M d K pc L (xN :: xI i :: xR r :: st) G bc bs := by
  intro O ad0 G0 p l e R s m args below meth c Q E ad dom H locs cells slots ls S
  obtain ⟨hR, hst, hL, hlv, hlen, hS, hxt, hc, hs⟩ := S
  subst hp
  have E0 := E
  obtain ⟨hx, hb, hml, hown, hts, hini, hW, hO, hrm, hfr, hret⟩ := E
  obtain ⟨i', hi, hw⟩ := tv_w_at (aC := O.2.2.1) (ad := ad) (tv_dom hR hG) hG
  have hoe := hR.2.2.2.1 r _ hG
  obtain ⟨o0, hst⟩ := tv_oks_c.mp hst
  obtain ⟨o1, hst⟩ := tv_oks_c.mp hst
  obtain ⟨o2, hst⟩ := tv_oks_c.mp hst
  obtain ⟨hn1, hn2⟩ := e_in h0 h1 hoe.1.2.2
  obtain ⟨C, hC⟩ : ∃ C, tv_aty t = .object C := by
    obtain ⟨h5, -, -⟩ := hoe.1
    match t, h5, ht with
    | 5, _, _ => exact ⟨_, rfl⟩
    | 6, _, _ => exact ⟨_, rfl⟩
    | 7, _, _ => exact ⟨_, rfl⟩
  refine va_astqN (D := O.2.1) (C := C) hx hb (tv_K hO hW) hR.1 hR.2.1 hS i' t hw (by rw [tv_ty hoe.1.2.1, hC]) hn1 hd (fun H1 locs1 hP1 hD1 hS1 => ?_)
  have hu := tv_updR (ad := ad) (f := f) (x := none) h0
  rw [hn2] at hP1 hD1
  rw [show va_up (fun j : Nat => (f j).map ad) i.toNat none = _ from hu] at hP1 hD1
  exact kk O ad0 G0 p l e R s m args below meth c Q E0 ad dom H1 locs1 cells slots ls ⟨tv_R_set (e := xra t n (rset f i none)) hR hG hi ⟨hoe.1, rset_ok hoe.2 trivial⟩ hP1 hD1 (tv_frm hfr hS1), tv_oks_mono (fun _ => tv_okr_set) hst, tv_okL_mono (fun _ => tv_okr_set) hL, hlv, hlen, hS1, tv_ext_set hxt, hc, hs⟩
/-- an object of class ci goes into an array whose class takes it -/
def tv_as (t ci : Nat) : Prop := ∃ q : vw_C, vwCl[ci]? = some q ∧ (tv_aty t = .object q.1 ∨ ∃ E, tv_aty t = .object E ∧ Cond.castable q.1 E ∈ lw_tbl)
theorem w_aast {r v : Rl} {t n ci : Nat} {vs : List XV} {f : Int → Option Rl} {i : Int} (hd : decode M.1 pc = .ok (.aastore, 1)) (hp : pc + 1 = pc') (hG : G r = some (xra t n f)) (hV : G v = some (xob ci vs)) (has : tv_as t ci) (h0 : 0 ≤ i) (h1 : i < n) (kk : tvW M d K pc' L st (gset G r (xra t n (rset f i (some v)))) bc bs) : tvW M d K pc L (xR v :: xI i :: xR r :: st) G bc bs := by
  intro O ad0 G0 p l e R s m args below meth c Q E ad dom H locs cells slots ls S
  obtain ⟨hR, hst, hL, hlv, hlen, hS, hxt, hc, hs⟩ := S
  subst hp
  have E0 := E
  obtain ⟨hx, hb, hml, hown, hts, hini, hW, hO, hrm, hfr, hret⟩ := E
  obtain ⟨i', hi, hw⟩ := tv_w_at (aC := O.2.2.1) (ad := ad) (tv_dom hR hG) hG
  have hoe := hR.2.2.2.1 r _ hG
  obtain ⟨o0, hst⟩ := tv_oks_c.mp hst
  obtain ⟨o1, hst⟩ := tv_oks_c.mp hst
  obtain ⟨o2, hst⟩ := tv_oks_c.mp hst
  obtain ⟨hn1, hn2⟩ := e_in h0 h1 hoe.1.2.2
  obtain ⟨j', hj, hwj⟩ := tv_w_at (aC := O.2.2.1) (ad := ad) (tv_dom hR hV) hV
  have hu := tv_updR (ad := ad) (f := f) (x := some v) h0
  have key : ∀ (H1 : Heap) (locs1 : List Loc), va_P O.2.1 vwCl ((tv_w O.2.2.1 ad dom G).set i' (ad r, .inl (O.2.2.1 t, n, .inr (.inr (.inr (.inr (va_up (fun j : Nat => (f j).map ad) (Int32.ofInt i).toNatClampNeg (some (ad v))))))))) H1 → va_D (tv_A O) ((tv_w O.2.2.1 ad dom G).set i' (ad r, .inl (O.2.2.1 t, n, .inr (.inr (.inr (.inr (va_up (fun j : Nat => (f j).map ad) (Int32.ofInt i).toNatClampNeg (some (ad v))))))))) → va_S (tv_A O) s.heap H1 locs1 → W p l e R s m args below meth c H1 locs1 cells slots Q (F0 m (pc + 1) ls (st.map (tv_e ad))) := by
    intro H1 locs1 hP1 hD1 hS1
    rw [hn2] at hP1 hD1
    rw [show va_up (fun j : Nat => (f j).map ad) i.toNat (some (ad v)) = _ from hu] at hP1 hD1
    exact kk O ad0 G0 p l e R s m args below meth c Q E0 ad dom H1 locs1 cells slots ls ⟨tv_R_set (e := xra t n (rset f i (some v))) hR hG hi ⟨hoe.1, rset_ok hoe.2 o0⟩ hP1 hD1 (tv_frm hfr hS1), tv_oks_mono (fun _ => tv_okr_set) hst, tv_okL_mono (fun _ => tv_okr_set) hL, hlv, hlen, hS1, tv_ext_set hxt, hc, hs⟩
  obtain ⟨q, hq, hty | ⟨E1, hty, hca⟩⟩ := has
  · exact va_astq (D := O.2.1) hx hb (tv_K hO hW) hR.1 hR.2.1 hS i' t j' ci hw (by rw [tv_ty hoe.1.2.1, hty]) hwj hq hn1 hd key
  · obtain ⟨b0, hb0, -⟩ := hO.1
    exact va_astqO (D := O.2.1) (E := E1) hx hb (tv_K hO hW) hR.1 hR.2.1 hS i' t j' ci hw (by rw [tv_ty hoe.1.2.1, hty]) (va_Nw.warmC hW (va_Nw.of rfl (hb0 _ hca))) hwj hq hn1 hd key
theorem tv_A0 {O : tv_O} {s : State} (h : O.1.heap.size ≤ s.heap.size) : ∀ q, s.heap.size ≤ q → tv_A O q := fun q hq => Nat.le_trans h hq
def tv_dv : FieldType → XV
  | .long => xL 0
  | .object _ => xN
  | .array _ => xN
  | _ => xI 0
/-- class own, entry idx, is class ci; its fields at first -/
def tv_nw (own : String) (idx ci N : Nat) (fs : List XV) : Prop := ∃ (C : String) (T : u_T) (ty : Nat → FieldType), vwCl[ci]? = some (C, T, N) ∧ Cond.classLink own idx C ∈ lw_all ∧ Cond.instantiable C N ∈ lw_all ∧ Cond.initialized C ∈ lw_all ∧ (∀ k, k < N → parseFieldDescriptor (T k).2.2.1 = some (ty k)) ∧ (∀ k, k < N → ∀ ad, defaultValue (ty k) = vp_V (fs.map (tv_e ad)) k) ∧ ∀ v ∈ fs, v = xI 0 ∨ v = xN ∨ v = xL 0
theorem tv_ok0 {G : GH} {v : XV} (h : v = xI 0 ∨ v = xN ∨ v = xL 0) : tv_ok G v := by
  rcases h with rfl | rfl | rfl
  · exact ⟨by omega, by omega⟩
  · exact trivial
  · exact ⟨by omega, by omega⟩
theorem w_new {idx ci N : Nat} {fs : List XV} (r : Rl) (hd : decode M.1 pc = .ok (.new idx, 3)) (hp : pc + 3 = pc') (hn : tv_nw M.2.2.1 idx ci N fs) (hr : G r = none) (h99 : r.1 ≠ 99) (kk : tvW M d K pc' L (xR r :: st) (gset G r (xob ci fs)) bc bs) : tvW M d K pc L st G (bc + 1) (bs + N) := by
  intro O ad0 G0 p l e R s m args below meth c Q E ad dom H locs cells slots ls S
  obtain ⟨hR, hst, hL, hlv, hlen, hS, hxt, hc, hs⟩ := S
  subst hp
  have E0 := E
  obtain ⟨hx, hb, hml, hown, hts, hini, hW, hO, hrm, hfr, hret⟩ := E
  obtain ⟨C, T, ty, hcl, hlink, hinst, hinit, hty, hdv, hfs⟩ := hn
  obtain ⟨hin, -, -⟩ := cls_ok ci _ hcl
  refine va_new (D := O.2.1) (ci := ci) (fs := fs.map (tv_e ad)) (C := C) (T := T) (N := N) hx hb hts hin ty hty hown (hts _ hlink) (hts _ hinst) (hts _ hinit) (tv_K hO hW) hR.1 hR.2.1 hS (tv_A0 hfr.1) hcl (fun j hj => hdv j hj ad) (by omega) (by omega) hd (fun q H1 hP1 hD1 hS1 => ?_)
  have hok : tv_okE G (xob ci fs) := fun v hv => tv_ok0 (hfs v hv)
  obtain ⟨ad', ha1, ha2, hR1⟩ := tv_R_push (e := xob ci fs) hR hr h99 hok hP1 hD1 (tv_frm hfr hS1)
  have hst' := tv_map_ext ha2 hst
  have hpr := tv_pr_ext (i := 0) ha2 hL
  have hokr : tv_okr (gset G r (xob ci fs)) r := Or.inl (by rw [gset_s]; exact fun h => by cases h)
  have := kk O ad0 G0 p l e R s m args below meth c Q E0 ad' (dom ++ [r]) H1 locs (cells + 1) (slots + N) ls ⟨hR1, tv_oks_c.mpr ⟨hokr, tv_oks_mono (fun _ => tv_okr_set) hst⟩, tv_okL_mono (fun _ => tv_okr_set) hL, by rw [hpr]; exact hlv, hlen, hS1, tv_ext_push hxt ha2, by omega, by omega⟩
  rw [List.map_cons, hst', show tv_e ad' (xR r) = .ref q by rw [← ha1]; rfl] at this
  exact this
theorem tv_aC {O : tv_O} {s : State} {cA : ClassId} {t : Nat} {ty : FieldType} (ht : t < 13) (hty : tv_aty t = ty) (hK : va_K O.2.1 vwCl (tv_tys O.2.2.1) s) (hK2 : va_K O.2.1 vwCl (tv_tys O.2.2.1 ++ [(cA, ty)]) s) : cA = O.2.2.1 t := by
  have h1 := (hK.2 t _ (tv_ty ht)).2
  have h2 := (hK2.2 13 (cA, ty) (by rw [List.getElem?_append_right (by simp [tv_tys])]; simp [tv_tys])).2
  subst hty
  match t, ht, h1, h2 with
  | 0, _, h1, h2 => exact Option.some.inj (h2.symm.trans h1)
  | 1, _, h1, h2 => exact Option.some.inj (h2.symm.trans h1)
  | 2, _, h1, h2 => exact Option.some.inj (h2.symm.trans h1)
  | 3, _, h1, h2 => exact Option.some.inj (h2.symm.trans h1)
  | 4, _, h1, h2 => exact Option.some.inj (h2.symm.trans h1)
  | 5, _, h1, h2 => obtain ⟨_, _, _, _, _, a⟩ := h1; obtain ⟨_, _, _, _, _, b⟩ := h2; exact Option.some.inj (b.symm.trans a)
  | 6, _, h1, h2 => obtain ⟨_, _, _, _, _, a⟩ := h1; obtain ⟨_, _, _, _, _, b⟩ := h2; exact Option.some.inj (b.symm.trans a)
  | 7, _, h1, h2 => obtain ⟨_, _, _, _, _, a⟩ := h1; obtain ⟨_, _, _, _, _, b⟩ := h2; exact Option.some.inj (b.symm.trans a)
  | 8, _, h1, h2 => exact Option.some.inj (h2.symm.trans h1)
  | 9, _, h1, h2 => exact Option.some.inj (h2.symm.trans h1)
  | 10, _, h1, h2 => exact Option.some.inj (h2.symm.trans h1)
  | 11, _, h1, h2 => exact Option.some.inj (h2.symm.trans h1)
  | 12, _, h1, h2 => exact Option.some.inj (h2.symm.trans h1)

theorem w_newi {z : Int} (r : Rl) (n : Nat) (hd : decode M.1 pc = .ok (.newarray .int, 2)) (hp : pc + 2 = pc') (hz : z = (n : Int)) (hn : n ≤ 60000000) (hr : G r = none) (h99 : r.1 ≠ 99) (kk : tvW M d K pc' L (xR r :: st) (gset G r (xar 0 n (fun _ => 0))) bc bs) : tvW M d K pc L (xI z :: st) G (bc + 1) (bs + n) := by
  intro O ad0 G0 p l e R s m args below meth c Q E ad dom H locs cells slots ls S
  obtain ⟨hR, hst, hL, hlv, hlen, hS, hxt, hc, hs⟩ := S
  subst hp
  have E0 := E
  obtain ⟨hx, hb, hml, hown, hts, hini, hW, hO, hrm, hfr, hret⟩ := E
  subst hz
  have hst := (tv_oks_c.mp hst).2
  refine va_newa (D := O.2.1) (atype := .int) (ty := .int) (N' := n) (a0 := (n, .inl fun _ => Int32.ofInt 0)) hx hb (hts _ q255) rfl (tv_K hO hW) hR.1 hR.2.1 hS (tv_A0 hfr.1) (fun cA => rfl) (fun q => by rw [e_0, e_lt ⟨by omega, by omega⟩ ⟨by omega, by omega⟩] at q; omega) (by show (Int32.ofInt _).toInt.toNat = _; rw [e_toInt ⟨by omega, by omega⟩]; omega) (by simp only [componentBytes]; omega) (by omega) (by omega) hd (fun q cA H1 hK1 hP1 hD1 hS1 => ?_)
  have hcA := tv_aC (t := 0) (by omega) rfl (tv_K hO hW) hK1
  subst hcA
  have hok : tv_okE G (xar 0 n (fun _ => 0)) := ⟨⟨by omega, by omega⟩, fun i => ⟨by show (_ : Int) ≤ 0; omega, by show (0 : Int) ≤ _; omega⟩⟩
  obtain ⟨ad', ha1, ha2, hR1⟩ := tv_R_push (e := xar 0 n (fun _ => 0)) hR hr h99 hok hP1 hD1 (tv_frm hfr hS1)
  have hst' := tv_map_ext ha2 hst
  have hpr := tv_pr_ext (i := 0) ha2 hL
  have hokr : tv_okr (gset G r (xar 0 n (fun _ => 0))) r := Or.inl (by rw [gset_s]; exact fun h => by cases h)
  have := kk O ad0 G0 p l e R s m args below meth c Q E0 ad' (dom ++ [r]) H1 locs (cells + 1) (slots + n) ls ⟨hR1, tv_oks_c.mpr ⟨hokr, tv_oks_mono (fun _ => tv_okr_set) hst⟩, tv_okL_mono (fun _ => tv_okr_set) hL, by rw [hpr]; exact hlv, hlen, hS1, tv_ext_push hxt ha2, by omega, by omega⟩
  rw [List.map_cons, hst', show tv_e ad' (xR r) = .ref q by rw [← ha1]; rfl] at this
  exact this
theorem w_newb {z : Int} (r : Rl) (n : Nat) (hd : decode M.1 pc = .ok (.newarray .byte, 2)) (hp : pc + 2 = pc') (hz : z = (n : Int)) (hn : n ≤ 60000000) (hr : G r = none) (h99 : r.1 ≠ 99) (kk : tvW M d K pc' L (xR r :: st) (gset G r (xar 1 n (fun _ => 0))) bc bs) : tvW M d K pc L (xI z :: st) G (bc + 1) (bs + n) := by
  intro O ad0 G0 p l e R s m args below meth c Q E ad dom H locs cells slots ls S
  obtain ⟨hR, hst, hL, hlv, hlen, hS, hxt, hc, hs⟩ := S
  subst hp
  have E0 := E
  obtain ⟨hx, hb, hml, hown, hts, hini, hW, hO, hrm, hfr, hret⟩ := E
  subst hz
  have hst := (tv_oks_c.mp hst).2
  refine va_newa (D := O.2.1) (atype := .byte) (ty := .byte) (N' := n) (a0 := (n, .inl fun _ => Int32.ofInt 0)) hx hb (hts _ q450) rfl (tv_K hO hW) hR.1 hR.2.1 hS (tv_A0 hfr.1) (fun cA => rfl) (fun q => by rw [e_0, e_lt ⟨by omega, by omega⟩ ⟨by omega, by omega⟩] at q; omega) (by show (Int32.ofInt _).toInt.toNat = _; rw [e_toInt ⟨by omega, by omega⟩]; omega) (by simp only [componentBytes]; omega) (by omega) (by omega) hd (fun q cA H1 hK1 hP1 hD1 hS1 => ?_)
  have hcA := tv_aC (t := 1) (by omega) rfl (tv_K hO hW) hK1
  subst hcA
  have hok : tv_okE G (xar 1 n (fun _ => 0)) := ⟨⟨by omega, by omega⟩, fun i => ⟨by show (_ : Int) ≤ 0; omega, by show (0 : Int) ≤ _; omega⟩⟩
  obtain ⟨ad', ha1, ha2, hR1⟩ := tv_R_push (e := xar 1 n (fun _ => 0)) hR hr h99 hok hP1 hD1 (tv_frm hfr hS1)
  have hst' := tv_map_ext ha2 hst
  have hpr := tv_pr_ext (i := 0) ha2 hL
  have hokr : tv_okr (gset G r (xar 1 n (fun _ => 0))) r := Or.inl (by rw [gset_s]; exact fun h => by cases h)
  have := kk O ad0 G0 p l e R s m args below meth c Q E0 ad' (dom ++ [r]) H1 locs (cells + 1) (slots + n) ls ⟨hR1, tv_oks_c.mpr ⟨hokr, tv_oks_mono (fun _ => tv_okr_set) hst⟩, tv_okL_mono (fun _ => tv_okr_set) hL, by rw [hpr]; exact hlv, hlen, hS1, tv_ext_push hxt ha2, by omega, by omega⟩
  rw [List.map_cons, hst', show tv_e ad' (xR r) = .ref q by rw [← ha1]; rfl] at this
  exact this
theorem w_news {z : Int} (r : Rl) (n : Nat) (hd : decode M.1 pc = .ok (.newarray .short, 2)) (hp : pc + 2 = pc') (hz : z = (n : Int)) (hn : n ≤ 60000000) (hr : G r = none) (h99 : r.1 ≠ 99) (kk : tvW M d K pc' L (xR r :: st) (gset G r (xar 2 n (fun _ => 0))) bc bs) : tvW M d K pc L (xI z :: st) G (bc + 1) (bs + n) := by
  intro O ad0 G0 p l e R s m args below meth c Q E ad dom H locs cells slots ls S
  obtain ⟨hR, hst, hL, hlv, hlen, hS, hxt, hc, hs⟩ := S
  subst hp
  have E0 := E
  obtain ⟨hx, hb, hml, hown, hts, hini, hW, hO, hrm, hfr, hret⟩ := E
  subst hz
  have hst := (tv_oks_c.mp hst).2
  refine va_newa (D := O.2.1) (atype := .short) (ty := .short) (N' := n) (a0 := (n, .inl fun _ => Int32.ofInt 0)) hx hb (hts _ q451) rfl (tv_K hO hW) hR.1 hR.2.1 hS (tv_A0 hfr.1) (fun cA => rfl) (fun q => by rw [e_0, e_lt ⟨by omega, by omega⟩ ⟨by omega, by omega⟩] at q; omega) (by show (Int32.ofInt _).toInt.toNat = _; rw [e_toInt ⟨by omega, by omega⟩]; omega) (by simp only [componentBytes]; omega) (by omega) (by omega) hd (fun q cA H1 hK1 hP1 hD1 hS1 => ?_)
  have hcA := tv_aC (t := 2) (by omega) rfl (tv_K hO hW) hK1
  subst hcA
  have hok : tv_okE G (xar 2 n (fun _ => 0)) := ⟨⟨by omega, by omega⟩, fun i => ⟨by show (_ : Int) ≤ 0; omega, by show (0 : Int) ≤ _; omega⟩⟩
  obtain ⟨ad', ha1, ha2, hR1⟩ := tv_R_push (e := xar 2 n (fun _ => 0)) hR hr h99 hok hP1 hD1 (tv_frm hfr hS1)
  have hst' := tv_map_ext ha2 hst
  have hpr := tv_pr_ext (i := 0) ha2 hL
  have hokr : tv_okr (gset G r (xar 2 n (fun _ => 0))) r := Or.inl (by rw [gset_s]; exact fun h => by cases h)
  have := kk O ad0 G0 p l e R s m args below meth c Q E0 ad' (dom ++ [r]) H1 locs (cells + 1) (slots + n) ls ⟨hR1, tv_oks_c.mpr ⟨hokr, tv_oks_mono (fun _ => tv_okr_set) hst⟩, tv_okL_mono (fun _ => tv_okr_set) hL, by rw [hpr]; exact hlv, hlen, hS1, tv_ext_push hxt ha2, by omega, by omega⟩
  rw [List.map_cons, hst', show tv_e ad' (xR r) = .ref q by rw [← ha1]; rfl] at this
  exact this
theorem w_newz {z : Int} (r : Rl) (n : Nat) (hd : decode M.1 pc = .ok (.newarray .boolean, 2)) (hp : pc + 2 = pc') (hz : z = (n : Int)) (hn : n ≤ 60000000) (hr : G r = none) (h99 : r.1 ≠ 99) (kk : tvW M d K pc' L (xR r :: st) (gset G r (xar 3 n (fun _ => 0))) bc bs) : tvW M d K pc L (xI z :: st) G (bc + 1) (bs + n) := by
  intro O ad0 G0 p l e R s m args below meth c Q E ad dom H locs cells slots ls S
  obtain ⟨hR, hst, hL, hlv, hlen, hS, hxt, hc, hs⟩ := S
  subst hp
  have E0 := E
  obtain ⟨hx, hb, hml, hown, hts, hini, hW, hO, hrm, hfr, hret⟩ := E
  subst hz
  have hst := (tv_oks_c.mp hst).2
  refine va_newa (D := O.2.1) (atype := .boolean) (ty := .boolean) (N' := n) (a0 := (n, .inl fun _ => Int32.ofInt 0)) hx hb (hts _ q193) rfl (tv_K hO hW) hR.1 hR.2.1 hS (tv_A0 hfr.1) (fun cA => rfl) (fun q => by rw [e_0, e_lt ⟨by omega, by omega⟩ ⟨by omega, by omega⟩] at q; omega) (by show (Int32.ofInt _).toInt.toNat = _; rw [e_toInt ⟨by omega, by omega⟩]; omega) (by simp only [componentBytes]; omega) (by omega) (by omega) hd (fun q cA H1 hK1 hP1 hD1 hS1 => ?_)
  have hcA := tv_aC (t := 3) (by omega) rfl (tv_K hO hW) hK1
  subst hcA
  have hok : tv_okE G (xar 3 n (fun _ => 0)) := ⟨⟨by omega, by omega⟩, fun i => Or.inl rfl⟩
  obtain ⟨ad', ha1, ha2, hR1⟩ := tv_R_push (e := xar 3 n (fun _ => 0)) hR hr h99 hok hP1 hD1 (tv_frm hfr hS1)
  have hst' := tv_map_ext ha2 hst
  have hpr := tv_pr_ext (i := 0) ha2 hL
  have hokr : tv_okr (gset G r (xar 3 n (fun _ => 0))) r := Or.inl (by rw [gset_s]; exact fun h => by cases h)
  have := kk O ad0 G0 p l e R s m args below meth c Q E0 ad' (dom ++ [r]) H1 locs (cells + 1) (slots + n) ls ⟨hR1, tv_oks_c.mpr ⟨hokr, tv_oks_mono (fun _ => tv_okr_set) hst⟩, tv_okL_mono (fun _ => tv_okr_set) hL, by rw [hpr]; exact hlv, hlen, hS1, tv_ext_push hxt ha2, by omega, by omega⟩
  rw [List.map_cons, hst', show tv_e ad' (xR r) = .ref q by rw [← ha1]; rfl] at this
  exact this
theorem w_newl {z : Int} (r : Rl) (n : Nat) (hd : decode M.1 pc = .ok (.newarray .long, 2)) (hp : pc + 2 = pc') (hz : z = (n : Int)) (hn : n ≤ 60000000) (hr : G r = none) (h99 : r.1 ≠ 99) (kk : tvW M d K pc' L (xR r :: st) (gset G r (xar 4 n (fun _ => 0))) bc bs) : tvW M d K pc L (xI z :: st) G (bc + 1) (bs + n) := by
  intro O ad0 G0 p l e R s m args below meth c Q E ad dom H locs cells slots ls S
  obtain ⟨hR, hst, hL, hlv, hlen, hS, hxt, hc, hs⟩ := S
  subst hp
  have E0 := E
  obtain ⟨hx, hb, hml, hown, hts, hini, hW, hO, hrm, hfr, hret⟩ := E
  subst hz
  have hst := (tv_oks_c.mp hst).2
  refine va_newa (D := O.2.1) (atype := .long) (ty := .long) (N' := n) (a0 := (n, .inr (.inl fun _ => Int64.ofInt 0))) hx hb (hts _ q194) rfl (tv_K hO hW) hR.1 hR.2.1 hS (tv_A0 hfr.1) (fun cA => rfl) (fun q => by rw [e_0, e_lt ⟨by omega, by omega⟩ ⟨by omega, by omega⟩] at q; omega) (by show (Int32.ofInt _).toInt.toNat = _; rw [e_toInt ⟨by omega, by omega⟩]; omega) (by simp only [componentBytes]; omega) (by omega) (by omega) hd (fun q cA H1 hK1 hP1 hD1 hS1 => ?_)
  have hcA := tv_aC (t := 4) (by omega) rfl (tv_K hO hW) hK1
  subst hcA
  have hok : tv_okE G (xar 4 n (fun _ => 0)) := ⟨⟨by omega, by omega⟩, fun i => ⟨by show (_ : Int) ≤ 0; omega, by show (0 : Int) ≤ _; omega⟩⟩
  obtain ⟨ad', ha1, ha2, hR1⟩ := tv_R_push (e := xar 4 n (fun _ => 0)) hR hr h99 hok hP1 hD1 (tv_frm hfr hS1)
  have hst' := tv_map_ext ha2 hst
  have hpr := tv_pr_ext (i := 0) ha2 hL
  have hokr : tv_okr (gset G r (xar 4 n (fun _ => 0))) r := Or.inl (by rw [gset_s]; exact fun h => by cases h)
  have := kk O ad0 G0 p l e R s m args below meth c Q E0 ad' (dom ++ [r]) H1 locs (cells + 1) (slots + n) ls ⟨hR1, tv_oks_c.mpr ⟨hokr, tv_oks_mono (fun _ => tv_okr_set) hst⟩, tv_okL_mono (fun _ => tv_okr_set) hL, by rw [hpr]; exact hlv, hlen, hS1, tv_ext_push hxt ha2, by omega, by omega⟩
  rw [List.map_cons, hst', show tv_e ad' (xR r) = .ref q by rw [← ha1]; rfl] at this
  exact this
theorem w_newr {z : Int} {idx t : Nat} {C : String} (r : Rl) (n : Nat) (hd : decode M.1 pc = .ok (.anewarray idx, 3)) (hp : pc + 3 = pc') (ht : 5 ≤ t ∧ t < 13) (hC : tv_aty t = .object C) (hlink : Cond.classLink M.2.2.1 idx C ∈ lw_all) (hao : Cond.arrayOver (.object C) ∈ lw_tbl) (hz : z = (n : Int)) (hn : n ≤ 60000000) (hr : G r = none) (h99 : r.1 ≠ 99) (kk : tvW M d K pc' L (xR r :: st) (gset G r (xra t n (fun _ => none))) bc bs) : tvW M d K pc L (xI z :: st) G (bc + 1) (bs + n) := by
  intro O ad0 G0 p l e R s m args below meth c Q E ad dom H locs cells slots ls S
  obtain ⟨hR, hst, hL, hlv, hlen, hS, hxt, hc, hs⟩ := S
  subst hp
  have E0 := E
  obtain ⟨hx, hb, hml, hown, hts, hini, hW, hO, hrm, hfr, hret⟩ := E
  subst hz
  have hst := (tv_oks_c.mp hst).2
  obtain ⟨b0, hb0, -⟩ := hO.1
  refine va_newq (D := O.2.1) (C := C) (N' := n) hx hb hown (hts _ hlink) (va_AO.moved hW.alike (va_AO.of (hb0 _ hao))) (tv_K hO hW) hR.1 hR.2.1 hS (tv_A0 hfr.1) (fun q => by rw [e_0, e_lt ⟨by omega, by omega⟩ ⟨by omega, by omega⟩] at q; omega) (by show (Int32.ofInt _).toInt.toNat = _; rw [e_toInt ⟨by omega, by omega⟩]; omega) (by omega) (by omega) (by omega) hd (fun q cA H1 hK1 hP1 hD1 hS1 => ?_)
  have hcA := tv_aC (t := t) ht.2 hC (tv_K hO hW) hK1
  subst hcA
  have hok : tv_okE G (xra t n (fun _ => none)) := ⟨⟨ht.1, ht.2, by omega⟩, fun i r h => by cases h⟩
  obtain ⟨ad', ha1, ha2, hR1⟩ := tv_R_push (e := xra t n (fun _ => none)) hR hr h99 hok hP1 hD1 (tv_frm hfr hS1)
  have hst' := tv_map_ext ha2 hst
  have hpr := tv_pr_ext (i := 0) ha2 hL
  have hokr : tv_okr (gset G r (xra t n (fun _ => none))) r := Or.inl (by rw [gset_s]; exact fun h => by cases h)
  have := kk O ad0 G0 p l e R s m args below meth c Q E0 ad' (dom ++ [r]) H1 locs (cells + 1) (slots + n) ls ⟨hR1, tv_oks_c.mpr ⟨hokr, tv_oks_mono (fun _ => tv_okr_set) hst⟩, tv_okL_mono (fun _ => tv_okr_set) hL, by rw [hpr]; exact hlv, hlen, hS1, tv_ext_push hxt ha2, by omega, by omega⟩
  rw [List.map_cons, hst', show tv_e ad' (xR r) = .ref q by rw [← ha1]; rfl] at this
  exact this
/-- a cast of an object to its own class -/
theorem w_cast {idx ci : Nat} {r : Rl} {fs : List XV} {q : vw_C} (hd : decode M.1 pc = .ok (.checkcast idx, 3)) (hp : pc + 3 = pc') (hG : G r = some (xob ci fs)) (hq : vwCl[ci]? = some q) (hlink : Cond.classLink M.2.2.1 idx q.1 ∈ lw_all) (kk : tvW M d K pc' L (xR r :: st) G bc bs) : tvW M d K pc L (xR r :: st) G bc bs := by
  intro O ad0 G0 p l e R s m args below meth c Q E ad dom H locs cells slots ls S
  obtain ⟨hR, hst, hL, hlv, hlen, hS, hxt, hc, hs⟩ := S
  subst hp
  have E0 := E
  obtain ⟨hx, hb, hml, hown, hts, hini, hW, hO, hrm, hfr, hret⟩ := E
  obtain ⟨i', hi, hw⟩ := tv_w_at (aC := O.2.2.1) (ad := ad) (tv_dom hR hG) hG
  have hoe := hR.2.2.2.1 r _ hG
  have kk := kk O ad0 G0 p l e R s m args below meth c Q E0 ad dom H locs cells slots ls ⟨hR, hst, hL, hlv, hlen, hS, hxt, hc, hs⟩
  exact va_castS hx hb hown (hts _ hlink) ((tv_K hO hW).1 ci q hq).2 (va_recv (tv_K hO hW) hR.1 hq hw) hd kk
theorem w_castA {idx t n : Nat} {r : Rl} {f : Int → Int} {nm : String} (hd : decode M.1 pc = .ok (.checkcast idx, 3)) (hp : pc + 3 = pc') (hG : G r = some (xar t n f)) (hnm : nm = "[" ++ (tv_aty t).toString) (hlink : Cond.classLink M.2.2.1 idx nm ∈ lw_all) (kk : tvW M d K pc' L (xR r :: st) G bc bs) : tvW M d K pc L (xR r :: st) G bc bs := by
  intro O ad0 G0 p l e R s m args below meth c Q E ad dom H locs cells slots ls S
  obtain ⟨hR, hst, hL, hlv, hlen, hS, hxt, hc, hs⟩ := S
  subst hp
  have E0 := E
  obtain ⟨hx, hb, hml, hown, hts, hini, hW, hO, hrm, hfr, hret⟩ := E
  obtain ⟨i', hi, hw⟩ := tv_w_at (aC := O.2.2.1) (ad := ad) (tv_dom hR hG) hG
  have hoe := hR.2.2.2.1 r _ hG
  have kk := kk O ad0 G0 p l e R s m args below meth c Q E0 ad dom H locs cells slots ls ⟨hR, hst, hL, hlv, hlen, hS, hxt, hc, hs⟩
  have hra := ((tv_K hO hW).2 t _ (tv_ty (by have := hoe.1.1; omega))).2
  have hfc : s.vm.findClass nm = some (O.2.2.1 t) := by
    subst hnm
    have h5 := hoe.1.1
    match t, h5, hra with
    | 0, _, h => exact h
    | 1, _, h => exact h
    | 2, _, h => exact h
    | 3, _, h => exact h
    | 4, _, h => exact h
  exact va_castA (D := O.2.1) hx hb hown (hts _ hlink) hR.1 i' hw hfc hd kk
theorem w_castN {idx : Nat} (hd : decode M.1 pc = .ok (.checkcast idx, 3)) (hp : pc + 3 = pc') (kk : tvW M d K pc' L (xN :: st) G bc bs) : tvW M d K pc L (xN :: st) G bc bs := by
  intro O ad0 G0 p l e R s m args below meth c Q E ad dom H locs cells slots ls S
  obtain ⟨hR, hst, hL, hlv, hlen, hS, hxt, hc, hs⟩ := S
  subst hp
  have E0 := E
  obtain ⟨hx, hb, hml, hown, hts, hini, hW, hO, hrm, hfr, hret⟩ := E
  have kk := kk O ad0 G0 p l e R s m args below meth c Q E0 ad dom H locs cells slots ls ⟨hR, hst, hL, hlv, hlen, hS, hxt, hc, hs⟩
  exact lv_castN hx hb hd kk
end HEAP3
