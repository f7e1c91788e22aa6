set_option maxRecDepth 10000
/-! statics, class objects, copies -/
theorem tv_z {O : tv_O} {s : State} {C n d : String} {v : Value} (hW : O.1.WarmedH s.vm) (hfr : O.1.heap.size ≤ s.heap.size ∧ ∀ q, q < O.1.heap.size → s.heap[q]? = O.1.heap[q]?) (h : va_Z C n d v (tv_A O) O.1 O.1.heap) : va_Z C n d v (tv_A O) s s.heap := by
  obtain ⟨cf, kf, fi, f, a, cell, h1, h2, h3, h4, h5, h6, h7, h8⟩ := va_Z.moved hW.alike h
  refine ⟨cf, kf, fi, f, a, cell, h1, h2, h3, h4, ?_, h6, h7, h8⟩
  rw [hfr.2 a (Nat.lt_of_not_le h8)]; exact h5
section ROWS
variable {M : tv_M} {d : Nat} {K : Option XV → GH → Prop} {pc pc' : Nat} {L : List (Option XV)} {st : List XV} {G : GH} {bc bs : Nat}
theorem w_gets {idx n : Nat} {nm : String} (hd : decode M.1 pc = .ok (.getstatic idx, 3)) (hp : pc + 3 = pc') (hlk : Cond.fieldLink M.2.2.1 idx "java/util/ArrayList" nm "[Ljava/lang/Object;" ∈ lw_all) (hn : n = 0 ∧ nm = "DEFAULTCAPACITY_EMPTY_ELEMENTDATA" ∨ n = 1 ∧ nm = "EMPTY_ELEMENTDATA") (kk : tvW M d K pc' L (xR (99, (n : Int), 0) :: st) G bc bs) : tvW M d K pc L st G bc bs := by
  intro O ad0 G0 p l e R s m args below meth c Q E ad dom H locs cells slots ls S
  obtain ⟨hR, hst, hL, hS⟩ := S
  subst hp
  have E0 := E
  obtain ⟨hx, hb, hml, hown, hts, hini, hW, hO, hrm, hfr, hret⟩ := E
  have hz : va_Z "java/util/ArrayList" nm "[Ljava/lang/Object;" (.ref (O.2.2.2 n)) (tv_A O) O.1 O.1.heap := by
    rcases hn with ⟨rfl, rfl⟩ | ⟨rfl, rfl⟩
    · exact (hO.2.2.1 0).1
    · exact (hO.2.2.1 1).1
  have kk := kk O ad0 G0 p l e R s m args below meth c Q E0 ad dom H locs cells slots ls ⟨hR, tv_oks_c.mpr ⟨Or.inr rfl, hst⟩, hL, hS⟩
  refine va_gets hx hb (tv_z hW hfr hz) hS.2.2.1 hown (hts _ hlk) (fun _ h => h) hd ?_
  rw [List.map_cons, show tv_e ad (xR (99, (n : Int), 0)) = .ref (O.2.2.2 n) by show Value.ref (ad (99, (n : Int), 0)) = _; rw [hR.2.2.2.2.2.1, Int.toNat_natCast]] at kk
  exact kk
theorem w_ldcM {idx n : Nat} {nm : String} (hd : decode M.1 pc = .ok (.ldc idx, 2)) (hp : pc + 2 = pc') (hlk : Cond.classLink M.2.2.1 idx nm ∈ lw_all) (hn : n = 2 ∧ nm = "java/util/ArrayList" ∨ n = 3 ∧ nm = "[Ljava/lang/Object;") (kk : tvW M d K pc' L (xR (99, (n : Int), 0) :: st) G bc bs) : tvW M d K pc L st G bc bs := by
  intro O ad0 G0 p l e R s m args below meth c Q E ad dom H locs cells slots ls S
  obtain ⟨hR, hst, hL, hS⟩ := S
  subst hp
  have E0 := E
  obtain ⟨hx, hb, hml, hown, hts, hini, hW, hO, hrm, hfr, hret⟩ := E
  have hz : va_Mi nm (O.2.2.2 n) O.1 := by
    rcases hn with ⟨rfl, rfl⟩ | ⟨rfl, rfl⟩
    · exact hO.2.2.1 2
    · exact hO.2.2.1 3
  have kk := kk O ad0 G0 p l e R s m args below meth c Q E0 ad dom H locs cells slots ls ⟨hR, tv_oks_c.mpr ⟨Or.inr rfl, hst⟩, hL, hS⟩
  refine va_ldcM hx hb hown (hts _ hlk) (va_Mi.moved hW.alike hz) hd ?_
  rw [List.map_cons, show tv_e ad (xR (99, (n : Int), 0)) = .ref (O.2.2.2 n) by show Value.ref (ad (99, (n : Int), 0)) = _; rw [hR.2.2.2.2.2.1, Int.toNat_natCast]] at kk
  exact kk
/-- an array of Objects, of ours or an old one without places -/
def tv_oa (G : GH) (r : Rl) (n : Nat) : Prop := (∃ f, G r = some (xra 5 n f)) ∨ n = 0 ∧ (r = (99, 0, 0) ∨ r = (99, 1, 0))
theorem tv_ocell {O : tv_O} {ad : Rl → Nat} {dom : List Rl} {G : GH} {H : Heap} {s : State} {r : Rl} {n : Nat} (hW : O.1.WarmedH s.vm) (hO : tv_Of O) (hR : tv_R O ad dom G H) (h : tv_oa G r n) : ∃ cell : Cell, H[ad r]? = some cell ∧ s.isArrayOf cell (.object "java/lang/Object") ∧ cell.vm ≠ .unknown ∧ cell.vm.isStatics = false ∧ cell.slots.size = n ∧ s.vm.findClass "[Ljava/lang/Object;" = some cell.cls := by
  rcases h with ⟨f, hG⟩ | ⟨rfl, h⟩
  · obtain ⟨i', hi, hw⟩ := tv_w_at (aC := O.2.2.1) (ad := ad) (tv_dom hR hG) hG
    have hc : H[ad r]? = some (vp_cell (O.2.2.1 5) (n, .inr (.inr (.inr (.inr fun j : Nat => (f j).map ad))))) := hR.1 i' _ hw
    have hk := (tv_K hO hW).2 5 _ (tv_ty (by decide))
    refine ⟨_, hc, hk.1 n _, ?_, rfl, arrV_size _ _ _, va_nmO hk.2 rfl⟩
    intro z; cases z
  · have hx : tv_ea O.1 (ad r) := by
      rcases h with rfl | rfl
      · rw [hR.2.2.2.2.2.1 0 0]; exact (hO.2.2.1 0).2
      · rw [hR.2.2.2.2.2.1 1 0]; exact (hO.2.2.1 1).2
    obtain ⟨cell, h1, h2, h3, h4, h5, h6⟩ := hx
    have hal : O.1.vm.Alike s.vm := hW.alike
    refine ⟨cell, ?_, State.isArrayOf_alike hal h2, h3, h4, h5, by rw [hal.findClass]; exact h6⟩
    rw [hR.2.2.2.2.2.2.2 _ (Array.getElem?_eq_some_iff.mp h1).1]; exact h1
theorem w_getC {idx n : Nat} {r : Rl} (hd : decode M.1 pc = .ok (.invokevirtual idx, 3)) (hp : pc + 3 = pc') (hlk : Cond.methodLink M.2.2.1 idx ⟨"java/lang/Object", "getClass", "()Ljava/lang/Class;"⟩ ∈ lw_all) (ho : tv_oa G r n) (h8 : (st.map tv_cat).sum ≤ 8) (kk : tvW M (d + 1) K pc' L (xR (99, 3, 0) :: st) G bc bs) : tvW M (d + 1) K pc L (xR r :: st) G bc bs := by
  intro O ad0 G0 p l e R s m args below meth c Q E ad dom H locs cells slots ls S
  obtain ⟨hR, hst, hL, hlv, hS⟩ := S
  subst hp
  have E0 := E
  obtain ⟨hx, hb, hml, hown, hts, hini, hW, hO, hrm, hfr, hret⟩ := E
  obtain ⟨b0, hb0, -⟩ := hO.1
  have hst := (tv_oks_c.mp hst).2
  obtain ⟨cell, c1, -, -, c2, -, c3⟩ := tv_ocell hW hO hR ho
  have kk := kk O ad0 G0 p l e R s m args below meth c Q E0 ad dom H locs cells slots ls ⟨hR, tv_oks_c.mpr ⟨Or.inr rfl, hst⟩, hL, hlv, hS⟩
  have h8' := tv_rest (ad := ad) h8
  refine va_getC (C := "[Ljava/lang/Object;") (mi := O.2.2.2 3) hx hb (by rw [hml]; exact hlv.1.symm) hown (hts _ hlk) (va_Dc.use (va_Dc.moved hW.alike (va_Dc.of (hb0 _ q408)))) (hts _ q1594) (hts _ q286) (hts _ q300) (va_Mi.moved hW.alike (hO.2.2.1 3)) ⟨cell, c1, c2, c3⟩ (by omega) (by omega) hd ?_
  rw [List.map_cons, show tv_e ad (xR (99, 3, 0)) = .ref (O.2.2.2 3) by show Value.ref (ad (99, 3, 0)) = _; rw [hR.2.2.2.2.2.1]; rfl] at kk
  exact kk
def rcp (f g : Int → Option Rl) (sp dp n : Int) : Int → Option Rl := fun j => if dp ≤ j ∧ j < dp + n then f (sp + (j - dp)) else g j
def icp (f g : Int → Int) (sp dp n : Int) : Int → Int := fun j => if dp ≤ j ∧ j < dp + n then f (sp + (j - dp)) else g j
theorem tv_cpR {ad : Rl → Nat} {f g : Int → Option Rl} {sp dp n : Int} (h0 : 0 ≤ sp) (h1 : 0 ≤ dp) (h2 : 0 ≤ n) : va_cpy (fun j : Nat => (f j).map ad) (fun j : Nat => (g j).map ad) sp.toNat dp.toNat n.toNat = fun j : Nat => (rcp f g sp dp n j).map ad := by
  funext j
  unfold va_cpy rcp
  by_cases h : dp.toNat ≤ j ∧ j < dp.toNat + n.toNat
  · rw [if_pos h, if_pos (by omega)]
    simp only []
    rw [show ((sp.toNat + (j - dp.toNat) : Nat) : Int) = sp + ((j : Int) - dp) by omega]
  · rw [if_neg h, if_neg (by omega)]
theorem tv_cpI {f g : Int → Int} {sp dp n : Int} (h0 : 0 ≤ sp) (h1 : 0 ≤ dp) (h2 : 0 ≤ n) : va_cpy (fun j : Nat => Int32.ofInt (f j)) (fun j : Nat => Int32.ofInt (g j)) sp.toNat dp.toNat n.toNat = fun j : Nat => Int32.ofInt (icp f g sp dp n j) := by
  funext j
  unfold va_cpy icp
  by_cases h : dp.toNat ≤ j ∧ j < dp.toNat + n.toNat
  · rw [if_pos h, if_pos (by omega)]
    simp only []
    rw [show ((sp.toNat + (j - dp.toNat) : Nat) : Int) = sp + ((j : Int) - dp) by omega]
  · rw [if_neg h, if_neg (by omega)]
theorem e_nat {z : Int} (h0 : 0 ≤ z) (h1 : z ≤ 2147483647) : (¬ Int32.ofInt z < 0) ∧ (Int32.ofInt z).toNatClampNeg = z.toNat := by
  refine ⟨fun q => ?_, ?_⟩
  · rw [e_0, e_lt ⟨by omega, by omega⟩ ⟨by omega, by omega⟩] at q; omega
  · show (Int32.ofInt z).toInt.toNat = _
    rw [e_toInt ⟨by omega, by omega⟩]
theorem w_acopyR {idx t0 t1 n0 n1 ci : Nat} {E0 E1 : String} {a b : Rl} {f g : Int → Option Rl} {sp dp n : Int} (hd : decode M.1 pc = .ok (.invokestatic idx, 3)) (hp : pc + 3 = pc') (hlk : Cond.methodLink M.2.2.1 idx arraycopyName ∈ lw_all) (ha : G a = some (xra t0 n0 f)) (hb' : G b = some (xra t1 n1 g)) (ht0 : tv_aty t0 = .object E0) (ht1 : tv_aty t1 = .object E1) (has : tv_as t1 ci) (h0 : 0 ≤ sp) (h1 : 0 ≤ dp) (h2 : 0 ≤ n) (h3 : sp + n ≤ n0) (h4 : dp + n ≤ n1)
    (hel : ∀ i, sp ≤ i → i < sp + n → ∀ x, f i = some x → ∃ fs, G x = some (xob ci fs)) (h8 : (st.map tv_cat).sum ≤ 8) (kk : tvW M (d + 1) K pc' L st (gset G b (xra t1 n1 (rcp f g sp dp n))) bc bs) : tvW M (d + 1) K pc L (xI n :: xI dp :: xR b :: xI sp :: xR a :: st) G bc bs := by
  intro O ad0 G0 p l e R s m args below meth c Q E ad dom H locs cells slots ls S
  obtain ⟨hR, hst, hL, hlv, hlen, hS, hxt, hc, hs⟩ := S
  subst hp
  have E0' := E
  obtain ⟨hx, hb, hml, hown, hts, hini, hW, hO, hrm, hfr, hret⟩ := E
  obtain ⟨b0, hb0, -⟩ := hO.1
  have hst := (tv_oks_c.mp (tv_oks_c.mp (tv_oks_c.mp (tv_oks_c.mp (tv_oks_c.mp hst).2).2).2).2).2
  obtain ⟨ia, hia, hwa⟩ := tv_w_at (aC := O.2.2.1) (ad := ad) (tv_dom hR ha) ha
  obtain ⟨ib, hib, hwb⟩ := tv_w_at (aC := O.2.2.1) (ad := ad) (tv_dom hR hb') hb'
  have hoa := hR.2.2.2.1 a _ ha
  have hob := hR.2.2.2.1 b _ hb'
  have hla := hoa.1.2.2
  have hlb := hob.1.2.2
  obtain ⟨n1', n2⟩ := e_nat (z := sp) h0 (by omega)
  obtain ⟨n3, n4⟩ := e_nat (z := dp) h1 (by omega)
  obtain ⟨n5, n6⟩ := e_nat (z := n) h2 (by omega)
  have h8' := tv_rest (ad := ad) h8
  obtain ⟨q, hq, hasq⟩ := has
  refine va_copyq (D := O.2.1) (C := q.1) hx hb (by rw [hml]; exact hlv.1.symm) hown (hts _ hlk) (hts _ q312) (hts _ q311) (hts _ q90) (tv_K hO hW) hR.1 hR.2.1 hS ia ib t0 t1 hwa hwb (by rw [tv_ty hoa.1.2.1, ht0]) (by rw [tv_ty hob.1.2.1, ht1]) n1' n3 n5 (by rw [n2, n6]; omega) (by rw [n4, n6]; omega) ?_ ?_ (by omega) (by
    have : nativeFrameWords "java/lang/System" "arraycopy" 5 = 7 := by decide
    omega) hd ?_
  · intro i hi y hy
    rw [n2] at hy
    rw [n6] at hi
    rw [Option.map_eq_some_iff] at hy
    obtain ⟨x, hx1, rfl⟩ := hy
    obtain ⟨fs, hfs⟩ := hel _ (by omega) (by omega) x hx1
    obtain ⟨ix, hix, hwx⟩ := tv_w_at (aC := O.2.2.1) (ad := ad) (tv_dom hR hfs) hfs
    exact va_recv (tv_K hO hW) hR.1 hq hwx
  · intro comp c0 g1 g2
    rcases hasq with hty | ⟨E2, hty, hca⟩
    · rw [ht1] at hty
      cases hty
      exact vb_asgS comp c0 g1 g2
    · rw [ht1] at hty
      cases hty
      exact vb_asgC (va_Nw.warmC hW (va_Nw.of rfl (hb0 _ hca))) comp c0 g1 g2
  · intro H1 locs1 hP1 hD1 hS1
    rw [n2, n4, n6, tv_cpR h0 h1 h2] at hP1 hD1
    have hok : tv_okE G (xra t1 n1 (rcp f g sp dp n)) := by
      refine ⟨hob.1, fun i r hr => ?_⟩
      unfold rcp at hr
      split at hr
      · exact hoa.2 _ r hr
      · exact hob.2 _ r hr
    exact kk O ad0 G0 p l e R s m args below meth c Q E0' ad dom H1 locs1 cells slots ls ⟨tv_R_set (e := xra t1 n1 (rcp f g sp dp n)) hR hb' hib hok hP1 hD1 (tv_frm hfr hS1), tv_oks_mono (fun _ => tv_okr_set) hst, tv_okL_mono (fun _ => tv_okr_set) hL, hlv, hlen, hS1, tv_ext_set hxt, hc, hs⟩
theorem w_acopyI {idx t n0 n1 : Nat} {a b : Rl} {f g : Int → Int} {sp dp n : Int} (hd : decode M.1 pc = .ok (.invokestatic idx, 3)) (hp : pc + 3 = pc') (hlk : Cond.methodLink M.2.2.1 idx arraycopyName ∈ lw_all) (ht : t = 0 ∨ t = 3) (ha : G a = some (xar t n0 f)) (hb' : G b = some (xar t n1 g)) (h0 : 0 ≤ sp) (h1 : 0 ≤ dp) (h2 : 0 ≤ n) (h3 : sp + n ≤ n0) (h4 : dp + n ≤ n1)
    (h8 : (st.map tv_cat).sum ≤ 8) (kk : tvW M (d + 1) K pc' L st (gset G b (xar t n1 (icp f g sp dp n))) bc bs) : tvW M (d + 1) K pc L (xI n :: xI dp :: xR b :: xI sp :: xR a :: st) G bc bs := by
  intro O ad0 G0 p l e R s m args below meth c Q E ad dom H locs cells slots ls S
  obtain ⟨hR, hst, hL, hlv, hlen, hS, hxt, hc, hs⟩ := S
  subst hp
  have E0' := E
  obtain ⟨hx, hb, hml, hown, hts, hini, hW, hO, hrm, hfr, hret⟩ := E
  have hst := (tv_oks_c.mp (tv_oks_c.mp (tv_oks_c.mp (tv_oks_c.mp (tv_oks_c.mp hst).2).2).2).2).2
  obtain ⟨ia, hia, hwa⟩ := tv_w_at (aC := O.2.2.1) (ad := ad) (tv_dom hR ha) ha
  obtain ⟨ib, hib, hwb⟩ := tv_w_at (aC := O.2.2.1) (ad := ad) (tv_dom hR hb') hb'
  have hoa := hR.2.2.2.1 a _ ha
  have hob := hR.2.2.2.1 b _ hb'
  have hla := hoa.1.2
  have hlb := hob.1.2
  obtain ⟨n1', n2⟩ := e_nat (z := sp) h0 (by omega)
  obtain ⟨n3, n4⟩ := e_nat (z := dp) h1 (by omega)
  obtain ⟨n5, n6⟩ := e_nat (z := n) h2 (by omega)
  have h8' := tv_rest (ad := ad) h8
  have t4 : t ≠ 4 := by omega
  rw [show tv_c O.2.2.1 ad (xar t n0 f) = .inl (O.2.2.1 t, n0, .inl fun j : Nat => Int32.ofInt (f j)) by show Sum.inl (_, _, if t = 4 then _ else _) = _; rw [if_neg t4]] at hwa
  rw [show tv_c O.2.2.1 ad (xar t n1 g) = .inl (O.2.2.1 t, n1, .inl fun j : Nat => Int32.ofInt (g j)) by show Sum.inl (_, _, if t = 4 then _ else _) = _; rw [if_neg t4]] at hwb
  refine va_copyi (D := O.2.1) (ty := tv_aty t) hx hb (by rw [hml]; exact hlv.1.symm) hown (hts _ hlk) (hts _ q312) (hts _ q311) (hts _ q90) (tv_K hO hW) hR.1 hR.2.1 hS ia ib t t hwa hwb (tv_ty (by omega)) (tv_ty (by omega)) (by rcases ht with rfl | rfl <;> rfl) n1' n3 n5 (by rw [n2, n6]; omega) (by rw [n4, n6]; omega) ?_ (by omega) (by
    have : nativeFrameWords "java/lang/System" "arraycopy" 5 = 7 := by decide
    omega) hd ?_
  · intro i hi
    rcases ht with rfl | rfl
    · rfl
    · have hz : f ((Int32.ofInt sp).toNatClampNeg + i : Nat) = 0 ∨ f ((Int32.ofInt sp).toNatClampNeg + i : Nat) = 1 := hoa.2 _
      rcases hz with w | w <;> rw [w] <;> decide +kernel
  · intro H1 locs1 hP1 hD1 hS1
    rw [n2, n4, n6, tv_cpI h0 h1 h2] at hP1 hD1
    have hok : tv_okE G (xar t n1 (icp f g sp dp n)) := by
      refine ⟨hob.1, fun i => ?_⟩
      unfold icp
      split
      · exact hoa.2 _
      · exact hob.2 _
    have hcE : tv_c O.2.2.1 ad (xar t n1 (icp f g sp dp n)) = .inl (O.2.2.1 t, n1, .inl fun j : Nat => Int32.ofInt (icp f g sp dp n j)) := by show Sum.inl (_, _, if t = 4 then _ else _) = _; rw [if_neg t4]
    exact kk O ad0 G0 p l e R s m args below meth c Q E0' ad dom H1 locs1 cells slots ls ⟨tv_R_set (e := xar t n1 (icp f g sp dp n)) hR hb' hib hok (by rw [hcE]; exact hP1) (by rw [hcE]; exact hD1) (tv_frm hfr hS1), tv_oks_mono (fun _ => tv_okr_set) hst, tv_okL_mono (fun _ => tv_okr_set) hL, hlv, hlen, hS1, tv_ext_set hxt, hc, hs⟩
theorem w_acopy0 {idx n1 : Nat} {a b : Rl} {g : Int → Option Rl} {sp dp : Int} (hd : decode M.1 pc = .ok (.invokestatic idx, 3)) (hp : pc + 3 = pc') (hlk : Cond.methodLink M.2.2.1 idx arraycopyName ∈ lw_all) (ha : tv_oa G a 0) (hb' : G b = some (xra 5 n1 g)) (hsp : sp = 0) (hdp : dp = 0)
    (h8 : (st.map tv_cat).sum ≤ 8) (kk : tvW M (d + 1) K pc' L st G bc bs) : tvW M (d + 1) K pc L (xI 0 :: xI dp :: xR b :: xI sp :: xR a :: st) G bc bs := by
  intro O ad0 G0 p l e R s m args below meth c Q E ad dom H locs cells slots ls S
  obtain ⟨hR, hst, hL, hlv, hlen, hS, hxt, hc, hs⟩ := S
  subst hp; subst hsp; subst hdp
  have E0' := E
  obtain ⟨hx, hb, hml, hown, hts, hini, hW, hO, hrm, hfr, hret⟩ := E
  have hst := (tv_oks_c.mp (tv_oks_c.mp (tv_oks_c.mp (tv_oks_c.mp (tv_oks_c.mp hst).2).2).2).2).2
  have kk := kk O ad0 G0 p l e R s m args below meth c Q E0' ad dom H locs cells slots ls ⟨hR, hst, hL, hlv, hlen, hS, hxt, hc, hs⟩
  obtain ⟨cs, s1, ⟨s2a, ks, s2b, sc, s2c⟩, s3, s4, s5, s6⟩ := tv_ocell hW hO hR ha
  obtain ⟨cd, d1, ⟨d2a, kd, d2b, dc, d2c⟩, d3, d4, d5, d6⟩ := tv_ocell (n := n1) hW hO hR (Or.inl ⟨g, hb'⟩)
  have h8' := tv_rest (ad := ad) h8
  intro T hT X
  obtain ⟨vm', X', step⟩ := X.arraycopy hx hown (hts _ hlk) (hts _ q312) (hts _ q311) (hts _ q90) (src := ad a) (dst := ad b) (cs := cs) (cd := cd) (srcPos := Int32.ofInt 0) (destPos := Int32.ofInt 0) (n := Int32.ofInt 0) (by rw [hT]; exact s1) (by rw [hT]; exact d1) s2a d2a s3 d3 s2b d2b s2c d2c rfl (by decide) (by decide) (by decide) (by rw [s5]; decide) (by rw [d5]; show ¬ (0 : Int) + 0 > (n1 : Int); omega) (fun vm' _ i hi => absurd hi (by show ¬ i < 0; omega)) (g := F0 m pc ls (.int (Int32.ofInt 0) :: .int (Int32.ofInt 0) :: .ref (ad b) :: .int (Int32.ofInt 0) :: .ref (ad a) :: st.map (tv_e ad))) rfl (by rw [hml]; exact hlv.1) rfl (by rw [hb]; exact hd) (by omega) (by
    have : nativeFrameWords "java/lang/System" "arraycopy" 5 = 7 := by decide
    show 2 * 0 + _ + _ ≤ _
    omega)
  have ecp : copied cs cd (Int32.ofInt 0) (Int32.ofInt 0) (Int32.ofInt 0) = cd := rfl
  have ehp : ((T.setVm vm').setCell (ad b) (copied cs cd (Int32.ofInt 0) (Int32.ofInt 0) (Int32.ofInt 0))).heap = H := by
    rw [ecp]
    show T.heap.setIfInBounds (ad b) cd = H
    rw [hT]
    apply Array.ext_getElem?
    intro i
    by_cases hi : i = ad b
    · rw [hi, Array.getElem?_setIfInBounds_self_of_lt (Array.getElem?_eq_some_iff.mp d1).1, d1]
    · rw [Array.getElem?_setIfInBounds_ne (Ne.symm hi)]
  obtain ⟨t, a1, b1⟩ := kk _ ehp (by
    have := X'
    rw [show (locs ++ ((cs.stretch (Int32.ofInt 0).toNatClampNeg (Int32.ofInt 0).toNatClampNeg).zipIdx.map fun q => (⟨ad b, (Int32.ofInt 0).toNatClampNeg + q.2⟩ : Loc))) = locs by rw [show cs.stretch (Int32.ofInt 0).toNatClampNeg (Int32.ofInt 0).toNatClampNeg = [] from rfl]; simp] at this
    exact this)
  exact ⟨t, step t a1, b1⟩
theorem w_clone {idx t n : Nat} {ad' : String} {r : Rl} {f : Int → Int} (r2 : Rl) (hd : decode M.1 pc = .ok (.invokevirtual idx, 3)) (hp : pc + 3 = pc') (ht : t = 1 ∧ ad' = "[B" ∨ t = 2 ∧ ad' = "[S") (hlk : Cond.methodLink M.2.2.1 idx ⟨ad', "clone", "()Ljava/lang/Object;"⟩ ∈ lw_all) (hG : G r = some (xar t n f)) (hr : G r2 = none) (h99 : r2.1 ≠ 99) (h8 : (st.map tv_cat).sum ≤ 8)
    (kk : tvW M (d + 1) K pc' L (xR r2 :: st) (gset G r2 (xar t n f)) bc bs) : tvW M (d + 1) K pc L (xR r :: st) G (bc + 1) (bs + n) := by
  intro O ad0 G0 p l e R s m args below meth c Q E ad dom H locs cells slots ls S
  obtain ⟨hR, hst, hL, hlv, hlen, hS, hxt, hc, hs⟩ := S
  subst hp
  have E0' := E
  obtain ⟨hx, hb, hml, hown, hts, hini, hW, hO, hrm, hfr, hret⟩ := E
  obtain ⟨b0, hb0, -⟩ := hO.1
  have hst := (tv_oks_c.mp hst).2
  obtain ⟨ia, hia, hwa⟩ := tv_w_at (aC := O.2.2.1) (ad := ad) (tv_dom hR hG) hG
  have hoa := hR.2.2.2.1 r _ hG
  have h8' := tv_rest (ad := ad) h8
  have t4 : t ≠ 4 := by omega
  rw [show tv_c O.2.2.1 ad (xar t n f) = .inl (O.2.2.1 t, n, .inl fun j : Nat => Int32.ofInt (f j)) by show Sum.inl (_, _, if t = 4 then _ else _) = _; rw [if_neg t4]] at hwa
  have hk := (tv_K hO hW).2 t _ (tv_ty (by omega))
  have hq : Cond.sameMethod ad' "java/lang/Object" "clone" "()Ljava/lang/Object;" ∈ lw_all ∧ Cond.selects ad' ⟨ad', "clone", "()Ljava/lang/Object;"⟩ ⟨"java/lang/Object", "clone", "()Ljava/lang/Object;"⟩ ∈ lw_all ∧ Cond.castable ad' "java/lang/Cloneable" ∈ lw_tbl ∧ s.vm.findClass ad' = some (O.2.2.1 t) := by
    rcases ht with ⟨rfl, rfl⟩ | ⟨rfl, rfl⟩
    · exact ⟨q505, q508, q509, hk.2⟩
    · exact ⟨q512, q513, q514, hk.2⟩
  refine va_clone (D := O.2.1) hx hb (by rw [hml]; exact hlv.1.symm) hown (hts _ hlk) (hts _ hq.1) (hts _ q506) (hts _ q507) (hts _ hq.2.1) (va_Nw.warmC hW (va_Nw.of rfl (hb0 _ hq.2.2.1))) (tv_K hO hW) hR.1 hR.2.1 hS (tv_A0 hfr.1) ia t hwa (tv_ty (by omega)) hq.2.2.2 ?_ (by omega) (by omega) (by omega) (by show slots + n ≤ _; omega) hd (fun q H1 hK1 hP1 hD1 hS1 => ?_)
  · intro i v hv
    have hi : i < n := by
      have := (Array.getElem?_eq_some_iff.mp hv).1
      rwa [show (vp_cell (O.2.2.1 t) (n, .inl fun j : Nat => Int32.ofInt (f j))).slots.size = n from arrV_size _ _ _] at this
    have e1 : (vp_cell (O.2.2.1 t) (n, .inl fun j : Nat => Int32.ofInt (f j))).slots[i]? = some (.int (Int32.ofInt (f i))) := arrV_read _ _ hi
    rw [e1] at hv
    cases hv
    rcases ht with ⟨rfl, -⟩ | ⟨rfl, -⟩
    · have := pk_fb (Int32.ofInt (f i))
      rw [e_iB (hoa.2 i)] at this
      exact this
    · have := pk_fs (Int32.ofInt (f i))
      rw [e_iS (hoa.2 i)] at this
      exact this
  · have hcE : tv_c O.2.2.1 ad (xar t n f) = .inl (O.2.2.1 t, n, .inl fun j : Nat => Int32.ofInt (f j)) := by show Sum.inl (_, _, if t = 4 then _ else _) = _; rw [if_neg t4]
    obtain ⟨adx, ha1, ha2, hR1⟩ := tv_R_push (e := xar t n f) hR hr h99 hoa (by rw [hcE]; exact hP1) (by rw [hcE]; exact hD1) (tv_frm hfr hS1)
    have hst' := tv_map_ext ha2 hst
    have hpr := tv_pr_ext (i := 0) ha2 hL
    have hokr : tv_okr (gset G r2 (xar t n f)) r2 := Or.inl (by rw [gset_s]; exact fun h => by cases h)
    have := kk O ad0 G0 p l e R s m args below meth c Q E0' adx (dom ++ [r2]) H1 locs (cells + 1) (slots + n) ls ⟨hR1, tv_oks_c.mpr ⟨hokr, tv_oks_mono (fun _ => tv_okr_set) hst⟩, tv_okL_mono (fun _ => tv_okr_set) hL, by rw [hpr]; exact hlv, hlen, hS1, tv_ext_push hxt ha2, by omega, by omega⟩
    rw [List.map_cons, hst', show tv_e adx (xR r2) = .ref q by rw [← ha1]; rfl] at this
    exact this
end ROWS
