set_option maxRecDepth 10000
/-- a field that is written: not final, or in its class's constructor -/
def tv_fp (own : String) (idx ci k : Nat) (ty : FieldType) (fin : Bool) : Prop := ∃ (C : String) (T : u_T) (N : Nat) (ref : String), vwCl[ci]? = some (C, T, N) ∧ k < N ∧ (Cond.fieldLink own idx ref (T k).2.1 (T k).2.2.1 ∈ lw_all ∨ fin = false ∧ ∃ host, Cond.fieldLinkNest own idx ref (T k).2.1 (T k).2.2.1 host ∈ lw_tbl) ∧ (ref = (T k).1 ∨ Cond.sameField ref (T k).1 (T k).2.1 (T k).2.2.1 ∈ lw_all) ∧ (T k).2.2.2 = fin ∧ (fin = true → (T k).1 = own) ∧ parseFieldDescriptor (T k).2.2.1 = some ty
section HEAP2
variable {M : tv_M} {d : Nat} {K : Option XV → GH → Prop} {pc pc' tgt : Nat} {off : Int} {L L' : List (Option XV)} {st : List XV} {G : GH} {bc bs : Nat}
theorem tv_okset {G : GH} {fs : List XV} {k : Nat} {v : XV} {ci : Nat} (h : tv_okE G (xob ci fs)) (hv : tv_ok G v) : tv_okE G (xob ci (fs.set k v)) := by
  intro u hu
  rcases List.mem_or_eq_of_mem_set hu with h1 | h1
  · exact h u h1
  · rw [h1]; exact hv
theorem w_put {idx ci : Nat} {r : Rl} {fs : List XV} {v : XV} {ty : FieldType} {fin : Bool} (k : Nat) (hd : decode M.1 pc = .ok (.putfield idx, 3)) (hp : pc + 3 = pc') (hf : tv_fp M.2.2.1 idx ci k ty fin) (hfin : fin = true → M.2.2.2.2 = true) (hG : G r = some (xob ci fs)) (hl : k < fs.length) (hv : tv_ft ty v) (kk : tvW M d K pc' L st (gset G r (xob ci (fs.set k v))) bc bs) : tvW M d K pc L (v :: xR r :: st) G bc bs := by
  intro O ad0 G0 p l e R s m args below meth c Q E ad dom H locs cells slots ls S
  obtain ⟨hR, hst, hL, hlv, hlen, hS, hxt, hc, hs⟩ := S
  subst hp
  have E0 := E
  obtain ⟨hx, hb, hml, hown, hts, hini, hW, hO, hrm, hfr, hret⟩ := E
  obtain ⟨C, T, N, ref, hcl, hk, hlink, hsame, hfl, hdecl, hpd⟩ := hf
  obtain ⟨hin, hnm, ty0, hty⟩ := cls_ok ci _ hcl
  obtain ⟨i, hi, hw⟩ := tv_w_at (aC := O.2.2.1) (ad := ad) (tv_dom hR hG) hG
  obtain ⟨h0, hst⟩ := tv_oks_c.mp hst
  obtain ⟨h1, hst⟩ := tv_oks_c.mp hst
  obtain ⟨hn, hfit⟩ := tv_ft_ok ad hv
  have hs2 : ∀ x, s.fieldFound? (T k).1 (T k).2.1 (T k).2.2.1 = some x → s.fieldFound? ref (T k).2.1 (T k).2.2.1 = some x := by
    rcases hsame with rfl | h
    · exact fun _ h => h
    · exact u_same (hts _ h)
  have key : ∀ (H1 : Heap) (locs1 : List Loc), va_P O.2.1 vwCl ((tv_w O.2.2.1 ad dom G).set i (ad r, .inr (ci, (fs.map (tv_e ad)).set k (tv_e ad v)))) H1 → va_D (tv_A O) ((tv_w O.2.2.1 ad dom G).set i (ad r, .inr (ci, (fs.map (tv_e ad)).set k (tv_e ad v)))) → va_S (tv_A O) s.heap H1 locs1 → W p l e R s m args below meth c H1 locs1 cells slots Q (F0 m (pc + 3) ls (st.map (tv_e ad))) := by
    intro H1 locs1 hP1 hD1 hS1
    rw [← List.map_set] at hP1 hD1
    exact kk O ad0 G0 p l e R s m args below meth c Q E0 ad dom H1 locs1 cells slots ls ⟨tv_R_set hR hG hi (tv_okset (hR.2.2.2.1 r _ hG) h0) hP1 hD1 (tv_frm hfr hS1), tv_oks_mono (fun _ => tv_okr_set) hst, tv_okL_mono (fun _ => tv_okr_set) hL, hlv, hlen, hS1, tv_ext_set hxt, hc, hs⟩
  cases fin with
  | false =>
    rcases hlink with hlink | ⟨-, host, hlink⟩
    · exact va_put (D := O.2.1) (ci := ci) (v := tv_e ad v) (C := C) (T := T) (N := N) hx hb hts hin ty0 hty hnm hown (tv_K hO hW) hR.1 hR.2.1 hS i hw hcl k hk (hts _ hlink) hs2 hfl hpd hn hfit (by rw [List.length_map]; exact hl) hd key
    · obtain ⟨b0, hb0, -⟩ := hO.1
      exact va_putN (D := O.2.1) (ci := ci) (v := tv_e ad v) (C := C) (T := T) (N := N) hx hb hts hin ty0 hty hnm hown (tv_K hO hW) hR.1 hR.2.1 hS i hw hcl k hk (va_Nw.use rfl (va_Nw.warmF hW (va_Nw.of rfl (hb0 _ hlink)))) hs2 hfl hpd hn hfit (by rw [List.length_map]; exact hl) hd key
  | true =>
    rcases hlink with hlink | ⟨hlink, -⟩
    · exact va_putF (D := O.2.1) (ci := ci) (v := tv_e ad v) (C := C) (T := T) (N := N) hx hb hts hin ty0 hty hnm hown (tv_K hO hW) hR.1 hR.2.1 hS i hw hcl k hk (hts _ hlink) hs2 hfl (hini (hfin rfl)) (hdecl rfl) hpd hn hfit (by rw [List.length_map]; exact hl) hd key
    · cases hlink
theorem tv_ty {aC : Nat → ClassId} {t : Nat} (h : t < 13) : (tv_tys aC)[t]? = some (aC t, tv_aty t) := by
  unfold tv_tys
  rw [List.getElem?_map, List.getElem?_range h]
  rfl
theorem e_toNat {i : Int} (h : 0 ≤ i) : ((i.toNat : Nat) : Int) = i := Int.toNat_of_nonneg h
theorem tv_updI {f : Int → Int} {i x : Int} (h : 0 ≤ i) : upd (fun j : Nat => Int32.ofInt (f j)) i.toNat (Int32.ofInt x) = fun j : Nat => Int32.ofInt (iset f i x j) := by
  funext j
  unfold upd iset
  by_cases hj : j = i.toNat
  · rw [if_pos hj, if_pos (by omega)]
  · rw [if_neg hj, if_neg (by omega)]
theorem tv_updL {f : Int → Int} {i x : Int} (h : 0 ≤ i) : vp_updL (fun j : Nat => Int64.ofInt (f j)) i.toNat (Int64.ofInt x) = fun j : Nat => Int64.ofInt (iset f i x j) := by
  funext j
  unfold vp_updL iset
  by_cases hj : j = i.toNat
  · rw [if_pos hj, if_pos (by omega)]
  · rw [if_neg hj, if_neg (by omega)]
theorem tv_updR {ad : Rl → Nat} {f : Int → Option Rl} {i : Int} {x : Option Rl} (h : 0 ≤ i) : va_up (fun j : Nat => (f j).map ad) i.toNat (x.map ad) = fun j : Nat => (rset f i x j).map ad := by
  funext j
  unfold va_up rset
  by_cases hj : j = i.toNat
  · rw [if_pos hj, if_pos (by omega)]
  · rw [if_neg hj, if_neg (by omega)]
theorem tv_rt_rg {t : Nat} {z : Int} (ht : t < 4) (h : tv_rt t z) : rg z := by
  match t, ht, h with
  | 0, _, h => exact h
  | 1, _, h => exact ⟨by have := h.1; omega, by have := h.2; omega⟩
  | 2, _, h => exact ⟨by have := h.1; omega, by have := h.2; omega⟩
  | 3, _, h => rcases h with rfl | rfl <;> exact ⟨by omega, by omega⟩
theorem iset_rt {f : Int → Int} {t : Nat} {i x : Int} (hf : ∀ i, tv_rt t (f i)) (hx : tv_rt t x) : ∀ j, tv_rt t (iset f i x j) := by
  intro j
  unfold iset
  split
  · exact hx
  · exact hf j

theorem e_iB {x : Int} (h : -128 ≤ x ∧ x ≤ 127) : (Int32.ofInt x).toInt8.toInt32 = Int32.ofInt x := by
  apply Int32.toInt_inj.mp
  rw [Int8.toInt_toInt32, Int32.toInt_toInt8, e_toInt ⟨by omega, by omega⟩]
  exact Int.bmod_eq_of_le (by omega) (by omega)
theorem e_iS {x : Int} (h : -32768 ≤ x ∧ x ≤ 32767) : (Int32.ofInt x).toInt16.toInt32 = Int32.ofInt x := by
  apply Int32.toInt_inj.mp
  rw [Int16.toInt_toInt32, Int32.toInt_toInt16, e_toInt ⟨by omega, by omega⟩]
  exact Int.bmod_eq_of_le (by omega) (by omega)
theorem w_iald {r : Rl} {n : Nat} {f : Int → Int} {i : Int} (hd : decode M.1 pc = .ok (.iaload, 1)) (hp : pc + 1 = pc') (hG : G r = some (xar 0 n f)) (h0 : 0 ≤ i) (h1 : i < n) (kk : tvW M d K pc' L (xI (f i) :: st) G bc bs) : tvW M d K pc L (xI i :: xR r :: st) G bc bs := by
  intro O ad0 G0 p l e R s m args below meth c Q E ad dom H locs cells slots ls S
  obtain ⟨hR, hst, hL, hlv, hlen, hS, hxt, hc, hs⟩ := S
  subst hp
  have E0 := E
  obtain ⟨hx, hb, hml, hown, hts, hini, hW, hO, hrm, hfr, hret⟩ := E
  obtain ⟨i', hi, hw⟩ := tv_w_at (aC := O.2.2.1) (ad := ad) (tv_dom hR hG) hG
  have hoe := hR.2.2.2.1 r _ hG
  obtain ⟨o1, hst⟩ := tv_oks_c.mp hst
  obtain ⟨o2, hst⟩ := tv_oks_c.mp hst
  obtain ⟨hn1, hn2⟩ := e_in h0 h1 hoe.1.2
  have kk := kk O ad0 G0 p l e R s m args below meth c Q E0 ad dom H locs cells slots ls ⟨hR, tv_oks_c.mpr ⟨tv_rt_rg (t := 0) (by omega) (hoe.2 i), hst⟩, hL, hlv, hlen, hS, hxt, hc, hs⟩
  refine va_iald (D := O.2.1) hx hb (tv_K hO hW) hR.1 i' 0 hw (tv_ty (by omega)) hn1 hd ?_
  rw [hn2]
  show W p l e R s m args below meth c H locs cells slots Q (F0 m (pc + 1) ls (.int (Int32.ofInt (f (i.toNat : Nat))) :: _))
  rw [e_toNat h0]
  exact kk
theorem w_iast {r : Rl} {n : Nat} {f : Int → Int} {i x : Int} (hd : decode M.1 pc = .ok (.iastore, 1)) (hp : pc + 1 = pc') (hG : G r = some (xar 0 n f)) (h0 : 0 ≤ i) (h1 : i < n) (kk : tvW M d K pc' L st (gset G r (xar 0 n (iset f i x))) bc bs) : tvW M d K pc L (xI x :: xI i :: xR r :: st) G bc bs := by
  intro O ad0 G0 p l e R s m args below meth c Q E ad dom H locs cells slots ls S
  obtain ⟨hR, hst, hL, hlv, hlen, hS, hxt, hc, hs⟩ := S
  subst hp
  have E0 := E
  obtain ⟨hx, hb, hml, hown, hts, hini, hW, hO, hrm, hfr, hret⟩ := E
  obtain ⟨i', hi, hw⟩ := tv_w_at (aC := O.2.2.1) (ad := ad) (tv_dom hR hG) hG
  have hoe := hR.2.2.2.1 r _ hG
  obtain ⟨o0, hst⟩ := tv_oks_c.mp hst
  obtain ⟨o1, hst⟩ := tv_oks_c.mp hst
  obtain ⟨o2, hst⟩ := tv_oks_c.mp hst
  obtain ⟨hn1, hn2⟩ := e_in h0 h1 hoe.1.2
  refine va_iast (D := O.2.1) hx hb (tv_K hO hW) hR.1 hR.2.1 hS i' 0 hw (tv_ty (by omega)) hn1 hd (fun H1 locs1 hP1 hD1 hS1 => ?_)
  rw [hn2, tv_updI h0] at hP1 hD1
  exact kk O ad0 G0 p l e R s m args below meth c Q E0 ad dom H1 locs1 cells slots ls ⟨tv_R_set (e := xar 0 n (iset f i x)) hR hG hi ⟨hoe.1, iset_rt hoe.2 o0⟩ hP1 hD1 (tv_frm hfr hS1), tv_oks_mono (fun _ => tv_okr_set) hst, tv_okL_mono (fun _ => tv_okr_set) hL, hlv, hlen, hS1, tv_ext_set hxt, hc, hs⟩
theorem w_bald {r : Rl} {n : Nat} {f : Int → Int} {i : Int} (hd : decode M.1 pc = .ok (.baload, 1)) (hp : pc + 1 = pc') (hG : G r = some (xar 1 n f)) (h0 : 0 ≤ i) (h1 : i < n) (kk : tvW M d K pc' L (xI (f i) :: st) G bc bs) : tvW M d K pc L (xI i :: xR r :: st) G bc bs := by
  intro O ad0 G0 p l e R s m args below meth c Q E ad dom H locs cells slots ls S
  obtain ⟨hR, hst, hL, hlv, hlen, hS, hxt, hc, hs⟩ := S
  subst hp
  have E0 := E
  obtain ⟨hx, hb, hml, hown, hts, hini, hW, hO, hrm, hfr, hret⟩ := E
  obtain ⟨i', hi, hw⟩ := tv_w_at (aC := O.2.2.1) (ad := ad) (tv_dom hR hG) hG
  have hoe := hR.2.2.2.1 r _ hG
  obtain ⟨o1, hst⟩ := tv_oks_c.mp hst
  obtain ⟨o2, hst⟩ := tv_oks_c.mp hst
  obtain ⟨hn1, hn2⟩ := e_in h0 h1 hoe.1.2
  have kk := kk O ad0 G0 p l e R s m args below meth c Q E0 ad dom H locs cells slots ls ⟨hR, tv_oks_c.mpr ⟨tv_rt_rg (t := 1) (by omega) (hoe.2 i), hst⟩, hL, hlv, hlen, hS, hxt, hc, hs⟩
  refine va_bald (D := O.2.1) hx hb (tv_K hO hW) hR.1 i' 1 hw (tv_ty (by omega)) hn1 hd ?_
  rw [hn2]
  show W p l e R s m args below meth c H locs cells slots Q (F0 m (pc + 1) ls (.int (Int32.ofInt (f (i.toNat : Nat))) :: _))
  rw [e_toNat h0]
  exact kk
theorem w_bast {r : Rl} {n : Nat} {f : Int → Int} {i x : Int} (hd : decode M.1 pc = .ok (.bastore, 1)) (hp : pc + 1 = pc') (hG : G r = some (xar 1 n f)) (h0 : 0 ≤ i) (h1 : i < n) (hx1 : -128 ≤ x ∧ x ≤ 127) (kk : tvW M d K pc' L st (gset G r (xar 1 n (iset f i x))) bc bs) : tvW M d K pc L (xI x :: xI i :: xR r :: st) G bc bs := by
  intro O ad0 G0 p l e R s m args below meth c Q E ad dom H locs cells slots ls S
  obtain ⟨hR, hst, hL, hlv, hlen, hS, hxt, hc, hs⟩ := S
  subst hp
  have E0 := E
  obtain ⟨hx, hb, hml, hown, hts, hini, hW, hO, hrm, hfr, hret⟩ := E
  obtain ⟨i', hi, hw⟩ := tv_w_at (aC := O.2.2.1) (ad := ad) (tv_dom hR hG) hG
  have hoe := hR.2.2.2.1 r _ hG
  obtain ⟨o0, hst⟩ := tv_oks_c.mp hst
  obtain ⟨o1, hst⟩ := tv_oks_c.mp hst
  obtain ⟨o2, hst⟩ := tv_oks_c.mp hst
  obtain ⟨hn1, hn2⟩ := e_in h0 h1 hoe.1.2
  refine va_bast (D := O.2.1) hx hb (tv_K hO hW) hR.1 hR.2.1 hS i' 1 hw (tv_ty (by omega)) hn1 hd (fun H1 locs1 hP1 hD1 hS1 => ?_)
  have hnar : vp_nar .byte (Int32.ofInt x) = Int32.ofInt x := by rw [vp_nar_byte]; exact e_iB hx1
  rw [hnar] at hP1 hD1
  rw [hn2, tv_updI h0] at hP1 hD1
  exact kk O ad0 G0 p l e R s m args below meth c Q E0 ad dom H1 locs1 cells slots ls ⟨tv_R_set (e := xar 1 n (iset f i x)) hR hG hi ⟨hoe.1, iset_rt hoe.2 hx1⟩ hP1 hD1 (tv_frm hfr hS1), tv_oks_mono (fun _ => tv_okr_set) hst, tv_okL_mono (fun _ => tv_okr_set) hL, hlv, hlen, hS1, tv_ext_set hxt, hc, hs⟩
theorem w_sald {r : Rl} {n : Nat} {f : Int → Int} {i : Int} (hd : decode M.1 pc = .ok (.saload, 1)) (hp : pc + 1 = pc') (hG : G r = some (xar 2 n f)) (h0 : 0 ≤ i) (h1 : i < n) (kk : tvW M d K pc' L (xI (f i) :: st) G bc bs) : tvW M d K pc L (xI i :: xR r :: st) G bc bs := by
  intro O ad0 G0 p l e R s m args below meth c Q E ad dom H locs cells slots ls S
  obtain ⟨hR, hst, hL, hlv, hlen, hS, hxt, hc, hs⟩ := S
  subst hp
  have E0 := E
  obtain ⟨hx, hb, hml, hown, hts, hini, hW, hO, hrm, hfr, hret⟩ := E
  obtain ⟨i', hi, hw⟩ := tv_w_at (aC := O.2.2.1) (ad := ad) (tv_dom hR hG) hG
  have hoe := hR.2.2.2.1 r _ hG
  obtain ⟨o1, hst⟩ := tv_oks_c.mp hst
  obtain ⟨o2, hst⟩ := tv_oks_c.mp hst
  obtain ⟨hn1, hn2⟩ := e_in h0 h1 hoe.1.2
  have kk := kk O ad0 G0 p l e R s m args below meth c Q E0 ad dom H locs cells slots ls ⟨hR, tv_oks_c.mpr ⟨tv_rt_rg (t := 2) (by omega) (hoe.2 i), hst⟩, hL, hlv, hlen, hS, hxt, hc, hs⟩
  refine va_sald (D := O.2.1) hx hb (tv_K hO hW) hR.1 i' 2 hw (tv_ty (by omega)) hn1 hd ?_
  rw [hn2]
  show W p l e R s m args below meth c H locs cells slots Q (F0 m (pc + 1) ls (.int (Int32.ofInt (f (i.toNat : Nat))) :: _))
  rw [e_toNat h0]
  exact kk
theorem w_sast {r : Rl} {n : Nat} {f : Int → Int} {i x : Int} (hd : decode M.1 pc = .ok (.sastore, 1)) (hp : pc + 1 = pc') (hG : G r = some (xar 2 n f)) (h0 : 0 ≤ i) (h1 : i < n) (hx1 : -32768 ≤ x ∧ x ≤ 32767) (kk : tvW M d K pc' L st (gset G r (xar 2 n (iset f i x))) bc bs) : tvW M d K pc L (xI x :: xI i :: xR r :: st) G bc bs := by
  intro O ad0 G0 p l e R s m args below meth c Q E ad dom H locs cells slots ls S
  obtain ⟨hR, hst, hL, hlv, hlen, hS, hxt, hc, hs⟩ := S
  subst hp
  have E0 := E
  obtain ⟨hx, hb, hml, hown, hts, hini, hW, hO, hrm, hfr, hret⟩ := E
  obtain ⟨i', hi, hw⟩ := tv_w_at (aC := O.2.2.1) (ad := ad) (tv_dom hR hG) hG
  have hoe := hR.2.2.2.1 r _ hG
  obtain ⟨o0, hst⟩ := tv_oks_c.mp hst
  obtain ⟨o1, hst⟩ := tv_oks_c.mp hst
  obtain ⟨o2, hst⟩ := tv_oks_c.mp hst
  obtain ⟨hn1, hn2⟩ := e_in h0 h1 hoe.1.2
  refine va_sast (D := O.2.1) hx hb (tv_K hO hW) hR.1 hR.2.1 hS i' 2 hw (tv_ty (by omega)) hn1 hd (fun H1 locs1 hP1 hD1 hS1 => ?_)
  have hnar : vp_nar .short (Int32.ofInt x) = Int32.ofInt x := by rw [vp_nar_short]; exact e_iS hx1
  rw [hnar] at hP1 hD1
  rw [hn2, tv_updI h0] at hP1 hD1
  exact kk O ad0 G0 p l e R s m args below meth c Q E0 ad dom H1 locs1 cells slots ls ⟨tv_R_set (e := xar 2 n (iset f i x)) hR hG hi ⟨hoe.1, iset_rt hoe.2 hx1⟩ hP1 hD1 (tv_frm hfr hS1), tv_oks_mono (fun _ => tv_okr_set) hst, tv_okL_mono (fun _ => tv_okr_set) hL, hlv, hlen, hS1, tv_ext_set hxt, hc, hs⟩
theorem w_zald {r : Rl} {n : Nat} {f : Int → Int} {i : Int} (hd : decode M.1 pc = .ok (.baload, 1)) (hp : pc + 1 = pc') (hG : G r = some (xar 3 n f)) (h0 : 0 ≤ i) (h1 : i < n) (kk : tvW M d K pc' L (xI (f i) :: st) G bc bs) : tvW M d K pc L (xI i :: xR r :: st) G bc bs := by
  intro O ad0 G0 p l e R s m args below meth c Q E ad dom H locs cells slots ls S
  obtain ⟨hR, hst, hL, hlv, hlen, hS, hxt, hc, hs⟩ := S
  subst hp
  have E0 := E
  obtain ⟨hx, hb, hml, hown, hts, hini, hW, hO, hrm, hfr, hret⟩ := E
  obtain ⟨i', hi, hw⟩ := tv_w_at (aC := O.2.2.1) (ad := ad) (tv_dom hR hG) hG
  have hoe := hR.2.2.2.1 r _ hG
  obtain ⟨o1, hst⟩ := tv_oks_c.mp hst
  obtain ⟨o2, hst⟩ := tv_oks_c.mp hst
  obtain ⟨hn1, hn2⟩ := e_in h0 h1 hoe.1.2
  have kk := kk O ad0 G0 p l e R s m args below meth c Q E0 ad dom H locs cells slots ls ⟨hR, tv_oks_c.mpr ⟨tv_rt_rg (t := 3) (by omega) (hoe.2 i), hst⟩, hL, hlv, hlen, hS, hxt, hc, hs⟩
  refine va_zald (D := O.2.1) hx hb (tv_K hO hW) hR.1 i' 3 hw (tv_ty (by omega)) hn1 hd ?_
  rw [hn2]
  show W p l e R s m args below meth c H locs cells slots Q (F0 m (pc + 1) ls (.int (Int32.ofInt (f (i.toNat : Nat))) :: _))
  rw [e_toNat h0]
  exact kk
theorem w_zast {r : Rl} {n : Nat} {f : Int → Int} {i x : Int} (hd : decode M.1 pc = .ok (.bastore, 1)) (hp : pc + 1 = pc') (hG : G r = some (xar 3 n f)) (h0 : 0 ≤ i) (h1 : i < n) (hx1 : x = 0 ∨ x = 1) (kk : tvW M d K pc' L st (gset G r (xar 3 n (iset f i x))) bc bs) : tvW M d K pc L (xI x :: xI i :: xR r :: st) G bc bs := by
  intro O ad0 G0 p l e R s m args below meth c Q E ad dom H locs cells slots ls S
  obtain ⟨hR, hst, hL, hlv, hlen, hS, hxt, hc, hs⟩ := S
  subst hp
  have E0 := E
  obtain ⟨hx, hb, hml, hown, hts, hini, hW, hO, hrm, hfr, hret⟩ := E
  obtain ⟨i', hi, hw⟩ := tv_w_at (aC := O.2.2.1) (ad := ad) (tv_dom hR hG) hG
  have hoe := hR.2.2.2.1 r _ hG
  obtain ⟨o0, hst⟩ := tv_oks_c.mp hst
  obtain ⟨o1, hst⟩ := tv_oks_c.mp hst
  obtain ⟨o2, hst⟩ := tv_oks_c.mp hst
  obtain ⟨hn1, hn2⟩ := e_in h0 h1 hoe.1.2
  refine va_zast (D := O.2.1) hx hb (tv_K hO hW) hR.1 hR.2.1 hS i' 3 hw (tv_ty (by omega)) hn1 hd (fun H1 locs1 hP1 hD1 hS1 => ?_)
  have hnar : vp_nar .boolean (Int32.ofInt x) = Int32.ofInt x := by rcases hx1 with rfl | rfl <;> decide +kernel
  rw [hnar] at hP1 hD1
  rw [hn2, tv_updI h0] at hP1 hD1
  exact kk O ad0 G0 p l e R s m args below meth c Q E0 ad dom H1 locs1 cells slots ls ⟨tv_R_set (e := xar 3 n (iset f i x)) hR hG hi ⟨hoe.1, iset_rt hoe.2 hx1⟩ hP1 hD1 (tv_frm hfr hS1), tv_oks_mono (fun _ => tv_okr_set) hst, tv_okL_mono (fun _ => tv_okr_set) hL, hlv, hlen, hS1, tv_ext_set hxt, hc, hs⟩
theorem w_lald {r : Rl} {n : Nat} {f : Int → Int} {i : Int} (hd : decode M.1 pc = .ok (.laload, 1)) (hp : pc + 1 = pc') (hG : G r = some (xar 4 n f)) (h0 : 0 ≤ i) (h1 : i < n) (kk : tvW M d K pc' L (xL (f i) :: st) G bc bs) : tvW M d K pc L (xI i :: xR r :: st) G bc bs := by
  intro O ad0 G0 p l e R s m args below meth c Q E ad dom H locs cells slots ls S
  obtain ⟨hR, hst, hL, hlv, hlen, hS, hxt, hc, hs⟩ := S
  subst hp
  have E0 := E
  obtain ⟨hx, hb, hml, hown, hts, hini, hW, hO, hrm, hfr, hret⟩ := E
  obtain ⟨i', hi, hw⟩ := tv_w_at (aC := O.2.2.1) (ad := ad) (tv_dom hR hG) hG
  have hoe := hR.2.2.2.1 r _ hG
  obtain ⟨o1, hst⟩ := tv_oks_c.mp hst
  obtain ⟨o2, hst⟩ := tv_oks_c.mp hst
  obtain ⟨hn1, hn2⟩ := e_in h0 h1 hoe.1.2
  have kk := kk O ad0 G0 p l e R s m args below meth c Q E0 ad dom H locs cells slots ls ⟨hR, tv_oks_c.mpr ⟨hoe.2 i, hst⟩, hL, hlv, hlen, hS, hxt, hc, hs⟩
  refine va_lald (D := O.2.1) hx hb (tv_K hO hW) hR.1 i' 4 hw (tv_ty (by omega)) hn1 hd ?_
  rw [hn2]
  show W p l e R s m args below meth c H locs cells slots Q (F0 m (pc + 1) ls (.long (Int64.ofInt (f (i.toNat : Nat))) :: _))
  rw [e_toNat h0]
  exact kk
theorem w_last {r : Rl} {n : Nat} {f : Int → Int} {i x : Int} (hd : decode M.1 pc = .ok (.lastore, 1)) (hp : pc + 1 = pc') (hG : G r = some (xar 4 n f)) (h0 : 0 ≤ i) (h1 : i < n) (kk : tvW M d K pc' L st (gset G r (xar 4 n (iset f i x))) bc bs) : tvW M d K pc L (xL x :: xI i :: xR r :: st) G bc bs := by
  intro O ad0 G0 p l e R s m args below meth c Q E ad dom H locs cells slots ls S
  obtain ⟨hR, hst, hL, hlv, hlen, hS, hxt, hc, hs⟩ := S
  subst hp
  have E0 := E
  obtain ⟨hx, hb, hml, hown, hts, hini, hW, hO, hrm, hfr, hret⟩ := E
  obtain ⟨i', hi, hw⟩ := tv_w_at (aC := O.2.2.1) (ad := ad) (tv_dom hR hG) hG
  have hoe := hR.2.2.2.1 r _ hG
  obtain ⟨o0, hst⟩ := tv_oks_c.mp hst
  obtain ⟨o1, hst⟩ := tv_oks_c.mp hst
  obtain ⟨o2, hst⟩ := tv_oks_c.mp hst
  obtain ⟨hn1, hn2⟩ := e_in h0 h1 hoe.1.2
  refine va_last (D := O.2.1) hx hb (tv_K hO hW) hR.1 hR.2.1 hS i' 4 hw (tv_ty (by omega)) hn1 hd (fun H1 locs1 hP1 hD1 hS1 => ?_)
  rw [hn2, tv_updL h0] at hP1 hD1
  exact kk O ad0 G0 p l e R s m args below meth c Q E0 ad dom H1 locs1 cells slots ls ⟨tv_R_set (e := xar 4 n (iset f i x)) hR hG hi ⟨hoe.1, iset_rt hoe.2 o0⟩ hP1 hD1 (tv_frm hfr hS1), tv_oks_mono (fun _ => tv_okr_set) hst, tv_okL_mono (fun _ => tv_okr_set) hL, hlv, hlen, hS1, tv_ext_set hxt, hc, hs⟩
theorem w_alen {r : Rl} {t n : Nat} {f : Int → Int} (hd : decode M.1 pc = .ok (.arraylength, 1)) (hp : pc + 1 = pc') (hG : G r = some (xar t n f)) (kk : tvW M d K pc' L (xI (n : Int) :: st) G bc bs) : tvW M d K pc L (xR r :: st) G bc bs := by
  intro O ad0 G0 p l e R s m args below meth c Q E ad dom H locs cells slots ls S
  obtain ⟨hR, hst, hL, hlv, hlen, hS, hxt, hc, hs⟩ := S
  subst hp
  have E0 := E
  obtain ⟨hx, hb, hml, hown, hts, hini, hW, hO, hrm, hfr, hret⟩ := E
  obtain ⟨i', hi, hw⟩ := tv_w_at (aC := O.2.2.1) (ad := ad) (tv_dom hR hG) hG
  have hoe := hR.2.2.2.1 r _ hG
  have kk := kk O ad0 G0 p l e R s m args below meth c Q E0 ad dom H locs cells slots ls ⟨hR, tv_oks_c.mpr ⟨⟨by omega, by have := hoe.1.2; omega⟩, (tv_oks_c.mp hst).2⟩, hL, hlv, hlen, hS, hxt, hc, hs⟩
  exact va_alen (D := O.2.1) (v := Int32.ofInt (n : Int)) hx hb (tv_K hO hW) hR.1 i' t hw (tv_ty (by have := hoe.1.1; omega)) Int32.ofInt_eq_ofNat.symm hd kk
theorem w_alenR {r : Rl} {t n : Nat} {f : Int → Option Rl} (hd : decode M.1 pc = .ok (.arraylength, 1)) (hp : pc + 1 = pc') (hG : G r = some (xra t n f)) (kk : tvW M d K pc' L (xI (n : Int) :: st) G bc bs) : tvW M d K pc L (xR r :: st) G bc bs := by
  intro O ad0 G0 p l e R s m args below meth c Q E ad dom H locs cells slots ls S
  obtain ⟨hR, hst, hL, hlv, hlen, hS, hxt, hc, hs⟩ := S
  subst hp
  have E0 := E
  obtain ⟨hx, hb, hml, hown, hts, hini, hW, hO, hrm, hfr, hret⟩ := E
  obtain ⟨i', hi, hw⟩ := tv_w_at (aC := O.2.2.1) (ad := ad) (tv_dom hR hG) hG
  have hoe := hR.2.2.2.1 r _ hG
  have kk := kk O ad0 G0 p l e R s m args below meth c Q E0 ad dom H locs cells slots ls ⟨hR, tv_oks_c.mpr ⟨⟨by omega, by have := hoe.1.2.2; omega⟩, (tv_oks_c.mp hst).2⟩, hL, hlv, hlen, hS, hxt, hc, hs⟩
  exact va_alen (D := O.2.1) (v := Int32.ofInt (n : Int)) hx hb (tv_K hO hW) hR.1 i' t hw (tv_ty hoe.1.2.1) Int32.ofInt_eq_ofNat.symm hd kk
theorem w_alenX {r : Rl} (hd : decode M.1 pc = .ok (.arraylength, 1)) (hp : pc + 1 = pc') (hr : tv_xr r) (kk : tvW M d K pc' L (xI 0 :: st) G bc bs) : tvW M d K pc L (xR r :: st) G bc bs := by
  intro O ad0 G0 p l e R s m args below meth c Q E ad dom H locs cells slots ls S
  obtain ⟨hR, hst, hL, hS⟩ := S
  subst hp
  have kk := kk O ad0 G0 p l e R s m args below meth c Q E ad dom H locs cells slots ls ⟨hR, tv_oks_c.mpr ⟨⟨by omega, by omega⟩, (tv_oks_c.mp hst).2⟩, hL, hS⟩
  obtain ⟨hx, hb, hml, hown, hts, hini, hW, hO, hrm, hfr, hret⟩ := E
  have he : tv_ea O.1 (ad r) := by
    rcases hr with rfl | rfl
    · rw [hR.2.2.2.2.2.1 0 0]; exact (hO.2.2.1 0).2
    · rw [hR.2.2.2.2.2.1 1 0]; exact (hO.2.2.1 1).2
  obtain ⟨cell, c1, c2, c3, c4, c5, c6⟩ := he
  have c1' : H[ad r]? = some cell := by rw [hR.2.2.2.2.2.2.2 _ (Array.getElem?_eq_some_iff.mp c1).1]; exact c1
  exact W.alen hx hb c1' (State.isArrayOf_alike hW.alike c2) (n := Int32.ofInt 0) (by rw [c5]; rfl) rfl rfl hd kk
theorem w_aald {r : Rl} {t n : Nat} {f : Int → Option Rl} {i : Int} (hd : decode M.1 pc = .ok (.aaload, 1)) (hp : pc + 1 = pc') (hG : G r = some (xra t n f)) (h0 : 0 ≤ i) (h1 : i < n) (kk : tvW M d K pc' L (xO (f i) :: st) G bc bs) : tvW M d K pc L (xI i :: xR r :: st) G bc bs := by
  intro O ad0 G0 p l e R s m args below meth c Q E ad dom H locs cells slots ls S
  obtain ⟨hR, hst, hL, hlv, hlen, hS, hxt, hc, hs⟩ := S
  subst hp
  have E0 := E
  obtain ⟨hx, hb, hml, hown, hts, hini, hW, hO, hrm, hfr, hret⟩ := E
  obtain ⟨i', hi, hw⟩ := tv_w_at (aC := O.2.2.1) (ad := ad) (tv_dom hR hG) hG
  have hoe := hR.2.2.2.1 r _ hG
  obtain ⟨o1, hst⟩ := tv_oks_c.mp hst
  obtain ⟨o2, hst⟩ := tv_oks_c.mp hst
  obtain ⟨hn1, hn2⟩ := e_in h0 h1 hoe.1.2.2
  have hok : tv_ok G (xO (f i)) := by
    cases hf : f i with
    | none => exact trivial
    | some q => exact hoe.2 i q hf
  have kk := kk O ad0 G0 p l e R s m args below meth c Q E0 ad dom H locs cells slots ls ⟨hR, tv_oks_c.mpr ⟨hok, hst⟩, hL, hlv, hlen, hS, hxt, hc, hs⟩
  have hlt : i.toNat < n := by omega
  have hcell : H[ad r]? = some (vp_cell (O.2.2.1 t) (n, .inr (.inr (.inr (.inr fun j : Nat => (f j).map ad))))) := hR.1 i' _ hw
  have hrf : (tv_aty t).isReference = true := by
    obtain ⟨h5, h13, -⟩ := hoe.1
    match t, h5, h13 with
    | 5, _, _ => rfl
    | 6, _, _ => rfl
    | 7, _, _ => rfl
    | 8, _, _ => rfl
    | 9, _, _ => rfl
    | 10, _, _ => rfl
    | 11, _, _ => rfl
    | 12, _, _ => rfl
  refine W.aald (v := va_rf ((f i).map ad)) (ty := tv_aty t) hx hb hcell (((tv_K hO hW).2 t _ (tv_ty hoe.1.2.1)).1 n (fun j => va_rf ((f j).map ad))) hrf (fun q => by cases q) ?_ ?_ rfl rfl hd ?_
  · show ¬ (_ ∨ (arrV _ _ _).slots.size ≤ _)
    rw [arrV_size]
    exact hn1
  · show (arrV _ _ _).slots[_]? = _
    rw [hn2, arrV_read _ _ hlt]
    show some (va_rf ((f (i.toNat : Nat)).map ad)) = _
    rw [e_toNat h0]
  · rw [← tv_e_o]
    exact kk

end HEAP2
