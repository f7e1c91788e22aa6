set_option maxRecDepth 10000
/-! calls through an interface: Collection.toArray and getClass on an ArrayList -/
abbrev gcO : MethodName := ⟨"java/lang/Object", "getClass", "()Ljava/lang/Class;"⟩
abbrev gcC : MethodName := ⟨"java/util/Collection", "getClass", "()Ljava/lang/Class;"⟩
theorem tv_mv {u U : State} {A A' : Array Value} {w : Cond} (hc : w.onTables = true) (h : w.before A (u.setVm U.vm) = true) : w.before A' U = true := by
  have e := Cond.onTables_vm (A := A) (A' := A') (U := u) (U' := U) U.vm w hc
  have hU : U.setVm U.vm = U := rfl
  rw [hU] at e
  rw [← e]
  exact h
/-- what the interface's getClass is -/
theorem tv_face {O : State} {s : State} {A A' : Array Value} (hvm : O.vm.Alike s.vm) (h1 : (Cond.interfaceMethod "java/util/Collection" "java/lang/Object" "getClass" "()Ljava/lang/Class;").before A O = true) (h2 : (Cond.selects "java/util/ArrayList" gcO gcO).before A' s = true) (h3 : (Cond.publicMethod gcO).before A' s = true) (h4 : (Cond.instanceMethod gcO).before A' s = true) :
    (Cond.interfaceMethod "java/util/Collection" "java/lang/Object" "getClass" "()Ljava/lang/Class;").before A' s = true ∧ (Cond.selects "java/util/ArrayList" gcC gcO).before A' s = true := by
  obtain ⟨c, k, m, f1, f2, f3, f4, f5⟩ := Cond.interfaceMethod_spec h1
  obtain ⟨c2, r2, m2, g1, g2, g3, g4, mk, g5, g6⟩ := Cond.selects_spec h2
  obtain ⟨mi, meth, i1, i2, i3, i4⟩ := Cond.instanceMethod_spec h4
  cases g3.symm.trans i1
  have hpub := Cond.publicMethod_spec i1 i2 h3
  have en : (O.setVm s.vm).methodNamed? gcO = O.methodNamed? gcO := State.methodNamed?_setVm hvm gcO
  have en2 : s.methodNamed? gcO = O.methodNamed? gcO := en
  cases (g3.symm.trans en2).trans f5
  obtain ⟨k', hk', ek⟩ := hvm.2.2 _ _ f2
  have hc' : s.vm.findClass "java/util/Collection" = some c := by rw [hvm.findClass]; exact f1
  have hname : k.name = "java/util/Collection" := by
    obtain ⟨hlt, hp, _⟩ := Array.findIdx?_eq_some_iff_getElem.mp f1
    obtain ⟨_, hget⟩ := Array.getElem?_eq_some_iff.mp f2
    rw [hget] at hp
    simp only [Bool.and_eq_true, beq_iff_eq] at hp
    exact hp.1.1.1
  have hpoly : ∀ y, signaturePolymorphic k y = false := fun y => by unfold signaturePolymorphic; rw [hname]; rfl
  have hpoly' : ∀ y, signaturePolymorphic k' y = false := fun y => by unfold signaturePolymorphic; rw [ek, hname]; rfl
  simp only [State.methodNamed?, Option.bind_eq_bind, Option.bind_eq_some_iff, Option.pure_def, Option.some.injEq] at g3
  obtain ⟨o, ho, ko, hko, i, hi, rfl⟩ := g3
  cases g5.symm.trans hko
  have hmo : mk.methods[i]? = some meth := by
    simp only [Vm.method?, hko, Option.bind_eq_bind, Option.bind_some] at i2
    exact i2
  have hnone : k.findMethod "getClass" "()Ljava/lang/Class;" = none := by
    cases hq : k.findMethod "getClass" "()Ljava/lang/Class;" with
    | none => rfl
    | some j =>
      have hj : (k.methods[j]?).isSome = true := by
        obtain ⟨hlt, _, _⟩ := Array.findIdx?_eq_some_iff_getElem.mp hq
        rw [Array.getElem?_eq_getElem hlt]
        rfl
      have := (State.methodFound?_declared f1 f2 hpoly hq hj).symm.trans f4
      cases this
      have h9 : k'.isInterface = true := by rw [ek]; exact f3
      cases hk'.symm.trans hko
      rw [h9] at g6
      cases g6
  have hv' : k'.isInterface = true := by rw [ek]; exact f3
  have hn' : k'.findMethod "getClass" "()Ljava/lang/Class;" = none := by rw [ek]; exact hnone
  have hfound := State.methodFound?_face hc' hk' hv' hpoly' hn' ho hko hi hmo hpub i3
  have hnm : s.methodNamed? gcO = some ⟨o, i⟩ := i1
  refine ⟨?_, ?_⟩
  · simp only [Cond.before, Cond.holds, Cond.value, hc', hfound, hnm, hk', Option.any_some, hv']
    rfl
  · have h2' := h2
    simp only [Cond.before, Cond.holds, Cond.value] at h2' ⊢
    rw [hfound]
    have hf2 : s.methodFound? "java/lang/Object" "getClass" "()Ljava/lang/Class;" = some ⟨o, i⟩ := State.methodFound?_of_named hnm (by decide)
    rw [hf2] at h2'
    exact h2'
section FACE
variable {M : tv_M} {d : Nat} {K : Option XV → GH → Prop} {pc pc' tgt : Nat} {off : Int} {L L' Ly : List (Option XV)} {st : List XV} {G : GH} {bc bs mc ms : Nat}
/-- behind a call of five bytes: the rest of the caller -/
theorem tv_after5 {O : tv_O} {ad0 : Rl → Nat} {G0 : GH} {p : Program} {l : Launch} {e : Env} {R : Room} {s : State} {m : MethodId} {args : Array Value} {below : List Frame} {meth : Method} {c : Code} {Q : State → Prop} (E : tv_E M (d + 1) K O ad0 G0 p l e R s m args below meth c Q)
    {ad : Rl → Nat} {dom : List Rl} {H : Heap} {locs : List Loc} {cells slots : Nat} {ls : Array Slot} {st0 : List Value} {a : Array Value} (hR : tv_R O ad dom G H) (hst : tv_oks G st) (hL : tv_okL G L) (hlv : lv_has ls M.2.1 (tv_pr ad 0 L)) (hlen : L.length ≤ M.2.1) (hS : va_S (tv_A O) s.heap H locs) (hxt : tv_ext ad0 G0 ad G) (hc : cells + (bc + mc) ≤ R.cells) (hs : slots + (bs + ms) ≤ R.slots)
    (hr : va_Run5 p l e R s m args below meth c H locs cells slots mc ms (F0 m pc ls st0) (st.map (tv_e ad)) (tv_Qc O ad G (fun v G' => tvW M (d + 1) K (pc + 5) L (tv_pu v st) G' bc bs) a) (tv_A O)) :
    W p l e R s m args below meth c H locs cells slots Q (F0 m pc ls st0) := by
  intro T hT X
  obtain ⟨v, st₀, t, T', Lc, h0, X', hLc, e1, e2, ⟨v', ad', dom', G', hv, hK, hR', hok, hx2, hz, hk⟩, st1⟩ := hr T hT X
  have had : ∀ q, tv_okr G q → ad' q = ad q := fun q hq => (hx2 q hq).1
  have hmo : ∀ q, tv_okr G q → tv_okr G' q := fun q hq => (hx2 q hq).2
  rw [h0] at hz hk
  have hS' : va_S (tv_A O) s.heap T'.heap (locs ++ Lc) := by
    refine ⟨Nat.le_trans hS.1 (by rw [e1]; exact hz), fun q h1 h2 => by rw [e1, hk q (Nat.lt_of_lt_of_le h1 hS.1) h2]; exact hS.2.1 q h1 h2, fun q hq => ?_⟩
    rcases List.mem_append.mp hq with h | h
    · exact hS.2.2 q h
    · exact hLc q h
  have hoks : tv_oks G' (tv_pu v' st) := by
    cases v' with
    | none => exact tv_oks_mono hmo hst
    | some y => exact tv_oks_c.mpr ⟨hok y rfl, tv_oks_mono hmo hst⟩
  have kk := hK O ad0 G0 p l e R s m args below meth c Q E ad' dom' T'.heap (locs ++ Lc) (cells + mc) (slots + ms) ls ⟨by rw [e1]; exact hR', hoks, tv_okL_mono hmo hL, by rw [tv_pr_ext had hL]; exact hlv, hlen, hS', fun q hq => ⟨(had q (hxt q hq).2).trans (hxt q hq).1, hmo q (hxt q hq).2⟩, by omega, by omega⟩
  obtain ⟨t2, a1, b1⟩ := kk T' rfl X'
  refine ⟨t2, st1 t2 ?_, b1⟩
  cases hv
  cases v' with
  | none =>
    have a2 : Steps p.tables e below (T'.setTop (F0 m (pc + 5) ls (st.map (tv_e ad')))) t2 := a1
    rw [tv_map_ext had hst] at a2
    exact a2
  | some y =>
    have a2 : Steps p.tables e below (T'.setTop (F0 m (pc + 5) ls (tv_e ad' y :: st.map (tv_e ad')))) t2 := a1
    rw [tv_map_ext had hst] at a2
    exact a2
abbrev taC : MethodName := ⟨"java/util/Collection", "toArray", "()[Ljava/lang/Object;"⟩
abbrev taA : MethodName := ⟨"java/util/ArrayList", "toArray", "()[Ljava/lang/Object;"⟩
theorem w_callF {idx count : Nat} {My : tv_M} {r : Rl} {fs : List XV} (hd : decode M.1 pc = .ok (.invokeinterface idx count, 5)) (hp : pc + 5 = pc') (hm : tv_mt taA My 0) (hlk : Cond.methodLink M.2.2.1 idx taC ∈ lw_all) (hG : G r = some (xob 9 fs)) (hL : tv_ent [xR r] My.2.1 = Ly) (hLl : (tv_en [xR r]).length ≤ My.2.1) (h8 : (st.map tv_cat).sum ≤ 8)
    (k : tvW My d (fun v G' => tvW M (d + 1) K pc' L (tv_pu v st) G' bc bs) 0 Ly [] G mc ms) : tvW M (d + 1) K pc L (xR r :: st) G (bc + mc) (bs + ms) := by
  intro O ad0 G0 p l e R s m args below meth c Q E ad dom H locs cells slots ls S
  obtain ⟨hR, hst, hL2, hlv, hlen, hS, hxt, hc, hs⟩ := S
  subst hp
  have E0 := E
  obtain ⟨hx, hb, hml, hown, hts, hini, hW, hO, hrm, hfr, hret⟩ := E
  obtain ⟨i', hi, hw⟩ := tv_w_at (aC := O.2.2.1) (ad := ad) (tv_dom hR hG) hG
  have hav : tv_oks G [xR r] := fun v hv => hst v (by rw [List.mem_singleton.mp hv]; exact List.mem_cons_self)
  have hst2 : tv_oks G st := fun v hv => hst v (List.mem_cons_of_mem _ hv)
  have hM := tv_met hm hL hLl k l O ad dom
  have hroom : d + 1 ≤ R.frames ∧ 8 + (My.2.1 + 11) + 100 * d ≤ R.locals := ⟨hrm.1, by have := hm.2.2.2.2.2.2; have := hrm.2; omega⟩
  obtain ⟨b0, hb0, -⟩ := hO.1
  have hF : va_Fw "java/util/ArrayList" taC taA s := va_Fw.moved (by decide) hW.alike (va_Fw.of (hb0 _ q398) (hb0 _ q397) (hb0 _ q403) (hb0 _ q401) (hb0 _ q399))
  refine tv_after5 E0 hR hst2 hL2 hlv hlen hS hxt hc hs (a := (([xR r].map (tv_e ad)).toArray)) ?_
  have hq : vwCl[9]? = some (RJ2, TJ2, 3) := rfl
  have hK := tv_K hO hW
  refine va_runF (C := "java/util/ArrayList") (As := []) (rest := st.map (tv_e ad)) (hK.1 9 _ hq).2 ⟨hx, hb, hml, hown, hts⟩ hM (va_cwF 0 hts ?_ rfl rfl rfl hF ⟨by decide, by decide, by decide +kernel⟩ hroom) ⟨tv_blind O ad dom G [xR r], va_recv hK hR.1 hq hw, fun U hU hW2 => ⟨rfl, State.WarmedH.trans hW hW2, hO, by rw [hU]; exact hR, hav⟩⟩ rfl rfl hlv.1 rfl (lv_room (tv_rest h8)) hd ⟨by omega, by omega⟩
  unfold va_wsF
  refine lw_app ?_ ?_
  · intro w hw
    simp only [List.mem_cons, List.mem_nil_iff, or_false] at hw
    rcases hw with rfl | rfl | rfl | rfl
    · exact hlk
    · exact q400
    · exact q402
    · exact hm.2.1
  · refine lw_good ?_
    intro w hw
    rcases List.mem_cons.mp hw with rfl | hw
    · exact hm.1
    · exact hw
/-- getClass of a list, through the interface -/
theorem w_getCI {idx count : Nat} {r : Rl} {fs : List XV} (hd : decode M.1 pc = .ok (.invokeinterface idx count, 5)) (hp : pc + 5 = pc') (hlk : Cond.methodLink M.2.2.1 idx gcC ∈ lw_all) (hG : G r = some (xob 9 fs)) (h8 : (st.map tv_cat).sum ≤ 8) (kk : tvW M (d + 1) K pc' L (xR (99, 2, 0) :: st) G bc bs) : tvW M (d + 1) K pc L (xR r :: st) G bc bs := by
  intro O ad0 G0 p l e R s m args below meth c Q E ad dom H locs cells slots ls S
  obtain ⟨hR, hst, hL, hlv, hS⟩ := S
  subst hp
  have E0 := E
  obtain ⟨hx, hb, hml, hown, hts, hini, hW, hO, hrm, hfr, hret⟩ := E
  obtain ⟨b0, hb0, -⟩ := hO.1
  have hst := (tv_oks_c.mp hst).2
  obtain ⟨i', hi, hw⟩ := tv_w_at (aC := O.2.2.1) (ad := ad) (tv_dom hR hG) hG
  have hq : vwCl[9]? = some (RJ2, TJ2, 3) := rfl
  have hK := tv_K hO hW
  obtain ⟨cell, c1, c2, c3⟩ := va_recv hK hR.1 hq hw
  have kk := kk O ad0 G0 p l e R s m args below meth c Q E0 ad dom H locs cells slots ls ⟨hR, tv_oks_c.mpr ⟨Or.inr rfl, hst⟩, hL, hlv, hS⟩
  have h8' := tv_rest (ad := ad) h8
  have hpub : (Cond.publicMethod gcO).before args s = true := tv_mv (u := O.1) (A := #[Value.ref b0]) rfl (by rw [Cond.publicMethod_setVm hW.alike]; exact hb0 _ q410)
  obtain ⟨hface, hsel⟩ := tv_face hW.alike (hb0 _ q407) (hts _ q299) hpub (hts _ q286)
  have hunh : (Cond.unhidden "java/util/ArrayList" "getClass" "()Ljava/lang/Class;").before args s = true := tv_mv (u := O.1) (A := #[Value.ref b0]) rfl (by rw [Cond.unhidden_setVm hW.alike]; exact hb0 _ q409)
  have hcast : (Cond.castable "java/util/ArrayList" "java/util/Collection").before args s = true := tv_mv (u := O.1) (A := #[Value.ref b0]) rfl (by rw [Cond.castable_setVm hW.alike]; exact hb0 _ q399)
  obtain ⟨c0, k0, m1, m2, m3⟩ := va_Mi.moved hW.alike (hO.2.2.1 2)
  cases m1.symm.trans c3
  intro T hT X
  obtain ⟨vm', X', stp⟩ := X.getClassOfI hx hown (hts _ hlk) (va_Dc.use (va_Dc.moved hW.alike (va_Dc.of (hb0 _ q408)))) hface hsel (hts _ q286) hpub hunh hcast (hts _ q300) (by decide) (by decide) rfl rfl m1 m2 ⟨cell, by rw [hT]; exact c1, rfl, c2⟩ m3 (g := F0 m pc ls ((xR r :: st).map (tv_e ad))) rfl (by rw [hml]; exact hlv.1) rfl (by rw [hb]; exact hd) (by omega) (by show 2 * 0 + _ + _ ≤ _; have hw : nativeFrameWords "java/lang/Object" "getClass" 1 = 3 := (by decide); omega)
  obtain ⟨t, a1, b1⟩ := kk (T.setVm vm') hT X'
  refine ⟨t, stp t ?_, b1⟩
  rw [List.map_cons, show tv_e ad (xR (99, 2, 0)) = .ref (O.2.2.2 2) by show Value.ref (ad (99, 2, 0)) = _; rw [hR.2.2.2.2.2.1]; rfl] at a1
  exact a1
end FACE
