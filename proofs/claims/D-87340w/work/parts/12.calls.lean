set_option maxRecDepth 10000
/-- the locals at a method's entry -/
def tv_en : List XV → List (Option XV)
  | [] => []
  | v :: vs => if tv_cat v = 2 then some v :: none :: tv_en vs else some v :: tv_en vs
abbrev tv_ent (av : List XV) (n : Nat) : List (Option XV) := tv_en av ++ List.replicate (n - (tv_en av).length) none
theorem tv_catE (ad : Rl → Nat) (v : XV) : (tv_e ad v).category = tv_cat v := by
  match v with
  | .inl z => rfl
  | .inr (.inl none) => rfl
  | .inr (.inl (some r)) => rfl
  | .inr (.inr z) => rfl
theorem tv_pr_none (ad : Rl → Nat) : ∀ (k i : Nat), tv_pr ad i (List.replicate k none) = []
  | 0, _ => rfl
  | k + 1, i => by rw [List.replicate_succ]; exact tv_pr_none ad k (i + 1)
theorem tv_pr_en (ad : Rl → Nat) (k : Nat) : ∀ (av : List XV) (i : Nat), tv_pr ad i (tv_en av ++ List.replicate k none) = lv_args i (av.map (tv_e ad))
  | [], i => by simp only [tv_en, List.nil_append]; exact tv_pr_none ad k i
  | v :: vs, i => by
    have hc := tv_catE ad v
    unfold tv_en
    split
    · rename_i h
      show (i, tv_e ad v) :: tv_pr ad (i + 1 + 1) (tv_en vs ++ List.replicate k none) = (i, tv_e ad v) :: lv_args (if (tv_e ad v).category = 2 then i + 2 else i + 1) (vs.map (tv_e ad))
      rw [if_pos (by rw [hc]; exact h), tv_pr_en ad k vs]
    · rename_i h
      show (i, tv_e ad v) :: tv_pr ad (i + 1) (tv_en vs ++ List.replicate k none) = (i, tv_e ad v) :: lv_args (if (tv_e ad v).category = 2 then i + 2 else i + 1) (vs.map (tv_e ad))
      rw [if_neg (by rw [hc]; exact h), tv_pr_en ad k vs]
theorem tv_sl_len (ad : Rl → Nat) : ∀ av : List XV, (lg_sl (av.map (tv_e ad))).length = (tv_en av).length
  | [] => rfl
  | v :: vs => by
    have ih := tv_sl_len ad vs
    have hc := tv_catE ad v
    unfold lg_sl at ih ⊢
    rw [List.map_cons, List.flatMap_cons, List.length_append, ih, show tv_en (v :: vs) = if tv_cat v = 2 then some v :: none :: tv_en vs else some v :: tv_en vs from rfl]
    by_cases h : tv_cat v = 2
    · rw [if_pos (by rw [hc]; exact h), if_pos h]; simp; omega
    · rw [if_neg (by rw [hc]; exact h), if_neg h]; simp; omega
theorem tv_en_mem : ∀ {av : List XV} {v : XV}, some v ∈ tv_en av → v ∈ av
  | [], _, h => by simp [tv_en] at h
  | u :: us, v, h => by
    unfold tv_en at h
    split at h
    · simp only [List.mem_cons] at h
      rcases h with h | h | h
      · cases h; exact List.mem_cons_self
      · cases h
      · exact List.mem_cons_of_mem _ (tv_en_mem h)
    · simp only [List.mem_cons] at h
      rcases h with h | h
      · cases h; exact List.mem_cons_self
      · exact List.mem_cons_of_mem _ (tv_en_mem h)
def tv_pu : Option XV → List XV → List XV
  | none, st => st
  | some x, st => x :: st
def tv_Pc (O : tv_O) (ad : Rl → Nat) (dom : List Rl) (G : GH) (av : List XV) : Array Value → State → Prop := va_Pc (av.map (tv_e ad)) (fun U => O.1.WarmedH U.vm ∧ tv_Of O ∧ tv_R O ad dom G U.heap ∧ tv_oks G av)
def tv_Qc (O : tv_O) (ad0 : Rl → Nat) (G0 : GH) (K : Option XV → GH → Prop) : Array Value → State → Outcome → State → Prop := fun _ st oc t => ∃ (v : Option XV) (ad : Rl → Nat) (dom : List Rl) (G : GH), oc = .returned (v.map (tv_e ad)) ∧ K v G ∧ tv_R O ad dom G t.heap ∧ tv_okO G v ∧ tv_ext ad0 G0 ad G ∧ va_F (tv_A O) st t
/-- a method: its words stand in the tables -/
def tv_mt (y : MethodName) (M : tv_M) (n : Nat) : Prop := Cond.code y M.1 M.2.1 M.2.2.2.1 ∈ lw_all ∧ Cond.initialized y.cls ∈ lw_all ∧ M.2.2.1 = y.cls ∧ (M.2.2.2.2 = true → y.name = "<init>") ∧ plainName y.cls = true ∧ (y.cls ≠ "java/lang/invoke/MethodHandle" ∧ y.cls ≠ "java/lang/invoke/VarHandle" ∧ (parseMethodDescriptor y.desc).map (fun d => d.parameters.length) = some n) ∧ M.2.1 ≤ 81
theorem tv_retW {M : tv_M} {K : Option XV → GH → Prop} {O : tv_O} {ad0 : Rl → Nat} {G0 : GH} {p : Program} {l : Launch} {e : Env} {R : Room} {s : State} {m : MethodId} {args : Array Value} {below : List Frame} {meth : Method} {c : Code} (hx : p.tables.exec = Jvm.exec) (hb : c.code = M.1) (hr : meth.sig.returnType = M.2.2.2.1) (hlocks : meth.locks = false)
    {v : Option XV} {ad : Rl → Nat} {dom : List Rl} {G : GH} {H : Heap} {locs : List Loc} {cells slots pc : Nat} {ls : Array Slot} {ins : Instr} (hK : K v G) (hR : tv_R O ad dom G H) (hok : tv_okO G v) (hS : va_S (tv_A O) s.heap H locs) (hxt : tv_ext ad0 G0 ad G) (hc : cells ≤ R.cells) (hs : slots ≤ R.slots) (hd : decode M.1 pc = .ok (ins, 1)) (hri : tv_ri M.2.2.2.1 v ins) :
    W p l e R s m args below meth c H locs cells slots (MQ below (tv_Qc O ad0 G0 K) args s R.cells R.slots (tv_A O)) (F0 m pc ls (v.toList.map (tv_e ad))) := by
  refine W.widen hc hs ?_
  have hq : ∀ t : State, t.heap = H → s.WarmedH t.vm → tv_Qc O ad0 G0 K args s (.returned (v.map (tv_e ad))) t := fun t ht _ => ⟨v, ad, dom, G, rfl, hK, by rw [ht]; exact hR, hok, hxt, hS.F ht⟩
  match hM : M.2.2.2.1, v, hri with
  | none, none, hri => cases hri; exact W.vret hx hb (hr.trans hM) hq hS.2.2 hd
  | some .int, some (.inl z), hri => cases hri; exact W.iret hx hb (hr.trans hM) hq hS.2.2 hd
  | some .boolean, some (.inl z), hri =>
    obtain ⟨h1, h2⟩ := hri
    cases h1
    exact W.zret hx hb (hr.trans hM) (by rcases h2 with rfl | rfl <;> decide +kernel) hq hS.2.2 hd
  | some .long, some (.inr (.inr z)), hri => cases hri; exact W.lret hx hb (hr.trans hM) hq hS.2.2 hd
  | some (.object C), some (.inr (.inl none)), hri => cases hri; exact W.aret hx hb (hr.trans hM) (Or.inl ⟨_, rfl⟩) (Or.inl rfl) hq hS.2.2 hd
  | some (.object C), some (.inr (.inl (some r))), hri => cases hri; exact W.aret hx hb (hr.trans hM) (Or.inl ⟨_, rfl⟩) (Or.inr ⟨_, rfl⟩) hq hS.2.2 hd
  | some (.array C), some (.inr (.inl none)), hri => cases hri; exact W.aret hx hb (hr.trans hM) (Or.inr ⟨_, rfl⟩) (Or.inl rfl) hq hS.2.2 hd
  | some (.array C), some (.inr (.inl (some r))), hri => cases hri; exact W.aret hx hb (hr.trans hM) (Or.inr ⟨_, rfl⟩) (Or.inr ⟨_, rfl⟩) hq hS.2.2 hd
/-- the contract of a method out of its judgement -/
theorem tv_met {y : MethodName} {M : tv_M} {n d : Nat} {K : Option XV → GH → Prop} {L : List (Option XV)} {av : List XV} {G : GH} {mc ms : Nat} (hm : tv_mt y M n) (hL : tv_ent av M.2.1 = L) (hLl : (tv_en av).length ≤ M.2.1) (k : tvW M d K 0 L [] G mc ms) (l : Launch) (O : tv_O) (ad : Rl → Nat) (dom : List Rl) :
    Met l y (ws_ y M.1 M.2.1 M.2.2.2.1) ({ frames := d, cells := mc, slots := ms, locals := 100 * d }) (tv_Pc O ad dom G av) (tv_Qc O ad G K) mc ms (tv_A O) := by
  obtain ⟨hcode, hinit, hcls, hini, hplain, -, -⟩ := hm
  refine Met.ofW (cc := M.1) (maxL := M.2.1) (ret := M.2.2.2.1) hplain rfl ?_
  intro p e s m args below meth c s₁ B hml hv
  obtain ⟨rfl, hW, hO, hR, hoks⟩ := hv
  have hts := atoms_spec (ws := ws_ y M.1 M.2.1 M.2.2.2.1) B.pre
  have hts : ∀ w ∈ lw_all, w.before _ s = true := fun w h => hts w (List.mem_cons_of_mem _ h)
  have hown : s.vm.findClass y.cls = some m.cls := findClass_of_methodNamed B.named
  have hin : meth.name = y.name := (name_of_methodNamed B.named B.method).1
  have hlocks := B.notSynchronized
  have hE : tv_E M d K O ad G p l e (headSpec (ws_ y M.1 M.2.1 M.2.2.2.1) ({ frames := d, cells := mc, slots := ms, locals := 100 * d })).room s m (av.map (tv_e ad)).toArray below meth c (MQ below (tv_Qc O ad G K) (av.map (tv_e ad)).toArray s mc ms (tv_A O)) :=
    ⟨B.exec, B.bytes, hml, by rw [hcls]; exact hown, hts, fun h => by rw [hin]; exact hini h, hW, hO, ⟨Nat.le_refl d, Nat.le_refl (100 * d)⟩, ⟨hR.2.2.2.2.2.2.1, hR.2.2.2.2.2.2.2⟩,
      fun v ad' dom' G' H locs cells slots pc ls ins hK hR' hok hS hxt hc hs hd hri => tv_retW (R := (headSpec (ws_ y M.1 M.2.1 M.2.2.2.1) ({ frames := d, cells := mc, slots := ms, locals := 100 * d })).room) B.exec B.bytes B.returns hlocks hK hR' hok hS hxt hc hs hd hri⟩
  have hl := lv_entry (av.map (tv_e ad)) (n := M.2.1) (by rw [tv_sl_len]; exact hLl)
  rw [lg_entry_eq]
  refine k O ad G p l e _ s m _ below meth c _ hE ad dom s.heap [] 0 0 _ ⟨hR, tv_oks_0, ?_, ?_, ?_, va_S.rf, fun r h => ⟨rfl, h⟩, ?_, ?_⟩
  · subst hL
    intro v hv
    rcases List.mem_append.mp hv with h | h
    · exact hoks v (tv_en_mem h)
    · have := List.eq_of_mem_replicate h
      cases this
  · subst hL
    rw [tv_pr_en]
    exact hl
  · subst hL
    simp only [List.length_append, List.length_replicate]
    omega
  · exact Nat.le_of_eq (Nat.zero_add mc)
  · exact Nat.le_of_eq (Nat.zero_add ms)
theorem tv_blind (O : tv_O) (ad : Rl → Nat) (dom : List Rl) (G : GH) (av : List XV) : FrameBlind (tv_Pc O ad dom G av) := fun a U g mk q => q
section CALLS
variable {M : tv_M} {d : Nat} {K : Option XV → GH → Prop} {pc pc' tgt : Nat} {off : Int} {L L' Ly : List (Option XV)} {st : List XV} {G : GH} {bc bs mc ms : Nat}
/-- behind a call: the rest of the caller -/
theorem tv_after {O : tv_O} {ad0 : Rl → Nat} {G0 : GH} {p : Program} {l : Launch} {e : Env} {R : Room} {s : State} {m : MethodId} {args : Array Value} {below : List Frame} {meth : Method} {c : Code} {Q : State → Prop} (E : tv_E M (d + 1) K O ad0 G0 p l e R s m args below meth c Q)
    {ad : Rl → Nat} {dom : List Rl} {H : Heap} {locs : List Loc} {cells slots : Nat} {ls : Array Slot} {st0 : List Value} {a : Array Value} (hR : tv_R O ad dom G H) (hst : tv_oks G st) (hL : tv_okL G L) (hlv : lv_has ls M.2.1 (tv_pr ad 0 L)) (hlen : L.length ≤ M.2.1) (hS : va_S (tv_A O) s.heap H locs) (hxt : tv_ext ad0 G0 ad G) (hc : cells + (bc + mc) ≤ R.cells) (hs : slots + (bs + ms) ≤ R.slots)
    (hr : va_Run p l e R s m args below meth c H locs cells slots mc ms (F0 m pc ls st0) (st.map (tv_e ad)) (tv_Qc O ad G (fun v G' => tvW M (d + 1) K (pc + 3) L (tv_pu v st) G' bc bs) a) (tv_A O)) :
    W p l e R s m args below meth c H locs cells slots Q (F0 m pc ls st0) := by
  intro T hT X
  obtain ⟨v, st₀, t, T', Lc, h0, X', hLc, e1, e2, ⟨v', ad', dom', G', hv, hK, hR', hok, hx2, hz, hk⟩, st1⟩ := hr T hT X
  have had : ∀ q, tv_okr G q → ad' q = ad q := fun q hq => (hx2 q hq).1
  have hmo : ∀ q, tv_okr G q → tv_okr G' q := fun q hq => (hx2 q hq).2
  rw [h0] at hz hk
  have hS' : va_S (tv_A O) s.heap T'.heap (locs ++ Lc) := by
    refine ⟨Nat.le_trans hS.1 (by rw [e1]; exact hz), fun q h1 h2 => by rw [e1, hk q (Nat.lt_of_lt_of_le h1 hS.1) h2]; exact hS.2.1 q h1 h2, fun q hq => ?_⟩
    rcases List.mem_append.mp hq with h | h
    · exact hS.2.2 q h
    · exact hLc q h
  have hoks : tv_oks G' (tv_pu v' st) := by
    cases v' with
    | none => exact tv_oks_mono hmo hst
    | some y => exact tv_oks_c.mpr ⟨hok y rfl, tv_oks_mono hmo hst⟩
  have kk := hK O ad0 G0 p l e R s m args below meth c Q E ad' dom' T'.heap (locs ++ Lc) (cells + mc) (slots + ms) ls ⟨by rw [e1]; exact hR', hoks, tv_okL_mono hmo hL, by rw [tv_pr_ext had hL]; exact hlv, hlen, hS', fun q hq => ⟨(had q (hxt q hq).2).trans (hxt q hq).1, hmo q (hxt q hq).2⟩, by omega, by omega⟩
  obtain ⟨t2, a1, b1⟩ := kk T' rfl X'
  refine ⟨t2, st1 t2 ?_, b1⟩
  cases hv
  cases v' with
  | none =>
    have a2 : Steps p.tables e below (T'.setTop (F0 m (pc + 3) ls (st.map (tv_e ad')))) t2 := a1
    rw [tv_map_ext had hst] at a2
    exact a2
  | some y =>
    have a2 : Steps p.tables e below (T'.setTop (F0 m (pc + 3) ls (tv_e ad' y :: st.map (tv_e ad')))) t2 := a1
    rw [tv_map_ext had hst] at a2
    exact a2
theorem tv_rest {ad : Rl → Nat} {st : List XV} (h : (st.map tv_cat).sum ≤ 8) : ((st.map (tv_e ad)).map fun v => v.category).sum ≤ 8 := by
  rw [List.map_map, show ((fun v : Value => v.category) ∘ tv_e ad) = tv_cat from funext (fun v => tv_catE ad v)]
  exact h
theorem w_callS {idx n : Nat} {y : MethodName} {My : tv_M} (av : List XV) {stk : List XV} (hd : decode M.1 pc = .ok (.invokestatic idx, 3)) (hp : pc + 3 = pc') (hm : tv_mt y My n) (hs1 : Cond.static y ∈ lw_all) (hlk : Cond.methodLink M.2.2.1 idx y ∈ lw_all) (hn : av.length = n) (hstk : stk = av.reverse ++ st) (hL : tv_ent av My.2.1 = Ly) (hLl : (tv_en av).length ≤ My.2.1) (h8 : (st.map tv_cat).sum ≤ 8)
    (k : tvW My d (fun v G' => tvW M (d + 1) K pc' L (tv_pu v st) G' bc bs) 0 Ly [] G mc ms) : tvW M (d + 1) K pc L stk G (bc + mc) (bs + ms) := by
  intro O ad0 G0 p l e R s m args below meth c Q E ad dom H locs cells slots ls S
  obtain ⟨hR, hst, hL2, hlv, hlen, hS, hxt, hc, hs⟩ := S
  subst hp
  subst hstk
  have E0 := E
  obtain ⟨hx, hb, hml, hown, hts, hini, hW, hO, hrm, hfr, hret⟩ := E
  have hav : tv_oks G av := fun v hv => hst v (List.mem_append_left _ (List.mem_reverse.mpr hv))
  have hst2 : tv_oks G st := fun v hv => hst v (List.mem_append_right _ hv)
  have hM := tv_met hm hL hLl k l O ad dom
  refine tv_after E0 hR hst2 hL2 hlv hlen hS hxt hc hs (a := (av.map (tv_e ad)).toArray) ?_
  refine va_runS (As := av.map (tv_e ad)) (rest := st.map (tv_e ad)) ⟨hx, hb, hml, hown, hts⟩ hM (va_cwS n hts (lw_S hlk hs1 hm.2.1 hm.1) rfl rfl rfl hm.2.2.2.2.2.1 ⟨hrm.1, by have := hm.2.2.2.2.2.2; have := hrm.2; show 8 + (My.2.1 + 11) + 100 * d ≤ _; omega⟩) ⟨tv_blind O ad dom G av, fun U hU hW2 => ⟨rfl, State.WarmedH.trans hW hW2, hO, by rw [hU]; exact hR, hav⟩⟩ rfl (by rw [List.length_map]; exact hn) hlv.1 (by show ((av.reverse ++ st).map (tv_e ad)) = _; rw [List.map_append, List.map_reverse]) (lv_room (tv_rest h8)) hd ⟨by omega, by omega⟩
theorem w_callI {idx n : Nat} {y : MethodName} {My : tv_M} (r : Rl) (av : List XV) {stk : List XV} (hd : decode M.1 pc = .ok (.invokespecial idx, 3)) (hp : pc + 3 = pc') (hm : tv_mt y My n) (hy : y.name = "<init>") (hrt : My.2.2.2.1 = none) (hi1 : Cond.instanceMethod y ∈ lw_all) (hlk : Cond.methodLink M.2.2.1 idx y ∈ lw_all ∨ ∃ host, Cond.methodLinkNest M.2.2.1 idx y host ∈ lw_tbl) (hn : av.length = n) (hstk : stk = av.reverse ++ xR r :: st) (hL : tv_ent (xR r :: av) My.2.1 = Ly) (hLl : (tv_en (xR r :: av)).length ≤ My.2.1) (h8 : (st.map tv_cat).sum ≤ 8)
    (k : tvW My d (fun v G' => tvW M (d + 1) K pc' L (tv_pu v st) G' bc bs) 0 Ly [] G mc ms) : tvW M (d + 1) K pc L stk G (bc + mc) (bs + ms) := by
  intro O ad0 G0 p l e R s m args below meth c Q E ad dom H locs cells slots ls S
  obtain ⟨hR, hst, hL2, hlv, hlen, hS, hxt, hc, hs⟩ := S
  subst hp
  subst hstk
  have E0 := E
  obtain ⟨hx, hb, hml, hown, hts, hini, hW, hO, hrm, hfr, hret⟩ := E
  have hav : tv_oks G (xR r :: av) := fun v hv => by
    rcases List.mem_cons.mp hv with h | h
    · rw [h]; exact hst _ (List.mem_append_right _ List.mem_cons_self)
    · exact hst v (List.mem_append_left _ (List.mem_reverse.mpr h))
  have hst2 : tv_oks G st := fun v hv => hst v (List.mem_append_right _ (List.mem_cons_of_mem _ hv))
  have hM := tv_met hm hL hLl k l O ad dom
  rw [hrt] at hM
  have hroom : d + 1 ≤ R.frames ∧ 8 + (My.2.1 + 11) + 100 * d ≤ R.locals := ⟨hrm.1, by have := hm.2.2.2.2.2.2; have := hrm.2; omega⟩
  have hcode : Cond.code y My.1 My.2.1 none ∈ lw_all := by have := hm.1; rw [hrt] at this; exact this
  have hpre : PreS s H (tv_Pc O ad dom G (xR r :: av)) (.ref (ad r) :: av.map (tv_e ad)) := ⟨tv_blind O ad dom G (xR r :: av), fun U hU hW2 => ⟨rfl, State.WarmedH.trans hW hW2, hO, by rw [hU]; exact hR, hav⟩⟩
  have hstk : ((av.reverse ++ xR r :: st).map (tv_e ad)) = (av.map (tv_e ad)).reverse ++ .ref (ad r) :: st.map (tv_e ad) := by rw [List.map_append, List.map_reverse]; rfl
  refine tv_after E0 hR hst2 hL2 hlv hlen hS hxt hc hs (a := (((xR r :: av).map (tv_e ad)).toArray)) ?_
  rw [hstk]
  rcases hlk with hlk | ⟨host, hlk⟩
  · exact va_runI (As := av.map (tv_e ad)) (rest := st.map (tv_e ad)) ⟨hx, hb, hml, hown, hts⟩ hM (cwI n hts (lw_meth hcode) rfl rfl rfl (hts _ hm.2.1) (hts _ hlk) (hts _ hi1) hy hm.2.2.2.2.2.1 hroom) hpre rfl (by rw [List.length_map]; exact hn) hlv.1 rfl (lv_room (tv_rest h8)) hd ⟨by omega, by omega⟩
  · obtain ⟨b0, hb0, -⟩ := hO.1
    exact va_runIN (As := av.map (tv_e ad)) (rest := st.map (tv_e ad)) ⟨hx, hb, hml, hown, hts⟩ hM ⟨va_cnB n hts (lw_meth hcode) rfl rfl rfl (va_Nw.warmM hW (va_Nw.of rfl (hb0 _ hlk))) (hts _ hm.2.1) hm.2.2.2.2.2.1 hroom, hy, hts _ hi1⟩ hpre rfl (by rw [List.length_map]; exact hn) hlv.1 rfl (lv_room (tv_rest h8)) hd ⟨by omega, by omega⟩
theorem w_callV {idx n ci : Nat} {y : MethodName} {My : tv_M} {fs : List XV} {q : vw_C} (r : Rl) (av : List XV) {stk : List XV} (hd : decode M.1 pc = .ok (.invokevirtual idx, 3)) (hp : pc + 3 = pc') (hm : tv_mt y My n) (hi1 : Cond.instanceMethod y ∈ lw_all) (hq : vwCl[ci]? = some q) (hqy : y.cls = q.1) (hsel : Cond.selects q.1 y y ∈ lw_all) (hlk : Cond.methodLink M.2.2.1 idx y ∈ lw_all) (hG : G r = some (xob ci fs)) (hn : av.length = n) (hstk : stk = av.reverse ++ xR r :: st) (hL : tv_ent (xR r :: av) My.2.1 = Ly) (hLl : (tv_en (xR r :: av)).length ≤ My.2.1) (h8 : (st.map tv_cat).sum ≤ 8)
    (k : tvW My d (fun v G' => tvW M (d + 1) K pc' L (tv_pu v st) G' bc bs) 0 Ly [] G mc ms) : tvW M (d + 1) K pc L stk G (bc + mc) (bs + ms) := by
  intro O ad0 G0 p l e R s m args below meth c Q E ad dom H locs cells slots ls S
  obtain ⟨hR, hst, hL2, hlv, hlen, hS, hxt, hc, hs⟩ := S
  subst hp
  subst hstk
  have E0 := E
  obtain ⟨hx, hb, hml, hown, hts, hini, hW, hO, hrm, hfr, hret⟩ := E
  obtain ⟨i', hi, hw⟩ := tv_w_at (aC := O.2.2.1) (ad := ad) (tv_dom hR hG) hG
  have hav : tv_oks G (xR r :: av) := fun v hv => by
    rcases List.mem_cons.mp hv with h | h
    · rw [h]; exact hst _ (List.mem_append_right _ List.mem_cons_self)
    · exact hst v (List.mem_append_left _ (List.mem_reverse.mpr h))
  have hst2 : tv_oks G st := fun v hv => hst v (List.mem_append_right _ (List.mem_cons_of_mem _ hv))
  have hM := tv_met hm hL hLl k l O ad dom
  have hroom : d + 1 ≤ R.frames ∧ 8 + (My.2.1 + 11) + 100 * d ≤ R.locals := ⟨hrm.1, by have := hm.2.2.2.2.2.2; have := hrm.2; omega⟩
  have hstk : ((av.reverse ++ xR r :: st).map (tv_e ad)) = (av.map (tv_e ad)).reverse ++ .ref (ad r) :: st.map (tv_e ad) := by rw [List.map_append, List.map_reverse]; rfl
  refine tv_after E0 hR hst2 hL2 hlv hlen hS hxt hc hs (a := (((xR r :: av).map (tv_e ad)).toArray)) ?_
  rw [hstk]
  exact va_runV (C := q.1) (As := av.map (tv_e ad)) (rest := st.map (tv_e ad)) ⟨hx, hb, hml, hown, hts⟩ hM (cwV n hts (lw_V hlk hi1 hsel (by have := hm.2.1; rw [hqy] at this; exact this) hm.1) rfl rfl rfl ⟨hqy, hm.2.2.2.2.2.1⟩ hroom) ⟨tv_blind O ad dom G (xR r :: av), va_recv (tv_K hO hW) hR.1 hq hw, fun U hU hW2 => ⟨rfl, State.WarmedH.trans hW hW2, hO, by rw [hU]; exact hR, hav⟩⟩ rfl (by rw [List.length_map]; exact hn) hlv.1 rfl (lv_room (tv_rest h8)) hd ⟨by omega, by omega⟩
theorem w_objI {idx : Nat} {r : Rl} (hd : decode M.1 pc = .ok (.invokespecial idx, 3)) (hp : pc + 3 = pc') (hlk : Cond.methodLink M.2.2.1 idx objectInit ∈ lw_all) (hi1 : Cond.instanceMethod objectInit ∈ lw_all) (hc1 : Cond.code objectInit ⟨#[0xb1]⟩ 1 none ∈ lw_all) (h8 : (st.map tv_cat).sum ≤ 8) (k : tvW M (d + 1) K pc' L st G bc bs) : tvW M (d + 1) K pc L (xR r :: st) G bc bs := by
  intro O ad0 G0 p l e R s m args below meth c Q E ad dom H locs cells slots ls S
  obtain ⟨hR, hst, hL2, hlv, hlen, hS⟩ := S
  subst hp
  have kk := k O ad0 G0 p l e R s m args below meth c Q E ad dom H locs cells slots ls ⟨hR, (tv_oks_c.mp hst).2, hL2, hlv, hlen, hS⟩
  obtain ⟨hx, hb, hml, hown, hts, hini, hW, hO, hrm, hfr, hret⟩ := E
  exact W.objInit hx hb hown (hts _ hlk) (hts _ hi1) (hts _ hc1) rfl (by rw [hml]; exact hlv.1) rfl hd (by omega) (by have := tv_rest (ad := ad) h8; have h2 := lv_room (m := m) (pc := pc) (ls := ls) (rest := (xR r :: st).map (tv_e ad)) this; omega) kk

theorem w_callS0 {idx : Nat} {y : MethodName} {My : tv_M} (hd : decode M.1 pc = .ok (.invokestatic idx, 3)) (hp : pc + 3 = pc') (hm : tv_mt y My 0) (hs1 : Cond.static y ∈ lw_all) (hlk : Cond.methodLink M.2.2.1 idx y ∈ lw_all) (hL : tv_ent [] My.2.1 = Ly) (hLl : (tv_en []).length ≤ My.2.1) (h8 : (st.map tv_cat).sum ≤ 8) (k : tvW My d (fun v G' => tvW M (d + 1) K pc' L (tv_pu v st) G' bc bs) 0 Ly [] G mc ms) : tvW M (d + 1) K pc L (st) G (bc + mc) (bs + ms) := w_callS [] hd hp hm hs1 hlk rfl rfl hL hLl h8 k
theorem w_callI0 {idx : Nat} {y : MethodName} {My : tv_M} {r : Rl} (hd : decode M.1 pc = .ok (.invokespecial idx, 3)) (hp : pc + 3 = pc') (hm : tv_mt y My 0) (hy : y.name = "<init>") (hrt : My.2.2.2.1 = none) (hi1 : Cond.instanceMethod y ∈ lw_all) (hlk : Cond.methodLink M.2.2.1 idx y ∈ lw_all ∨ ∃ host, Cond.methodLinkNest M.2.2.1 idx y host ∈ lw_tbl) (hL : tv_ent (xR r :: []) My.2.1 = Ly) (hLl : (tv_en (xR r :: [])).length ≤ My.2.1) (h8 : (st.map tv_cat).sum ≤ 8) (k : tvW My d (fun v G' => tvW M (d + 1) K pc' L (tv_pu v st) G' bc bs) 0 Ly [] G mc ms) : tvW M (d + 1) K pc L (xR r :: st) G (bc + mc) (bs + ms) := w_callI r [] hd hp hm hy hrt hi1 hlk rfl rfl hL hLl h8 k
theorem w_callV0 {idx ci : Nat} {y : MethodName} {My : tv_M} {r : Rl} {fs : List XV} {q : vw_C} (hd : decode M.1 pc = .ok (.invokevirtual idx, 3)) (hp : pc + 3 = pc') (hm : tv_mt y My 0) (hi1 : Cond.instanceMethod y ∈ lw_all) (hq : vwCl[ci]? = some q) (hqy : y.cls = q.1) (hsel : Cond.selects q.1 y y ∈ lw_all) (hlk : Cond.methodLink M.2.2.1 idx y ∈ lw_all) (hG : G r = some (xob ci fs)) (hL : tv_ent (xR r :: []) My.2.1 = Ly) (hLl : (tv_en (xR r :: [])).length ≤ My.2.1) (h8 : (st.map tv_cat).sum ≤ 8) (k : tvW My d (fun v G' => tvW M (d + 1) K pc' L (tv_pu v st) G' bc bs) 0 Ly [] G mc ms) : tvW M (d + 1) K pc L (xR r :: st) G (bc + mc) (bs + ms) := w_callV r [] hd hp hm hi1 hq hqy hsel hlk hG rfl rfl hL hLl h8 k
theorem w_callS1 {x0 : XV} {idx : Nat} {y : MethodName} {My : tv_M} (hd : decode M.1 pc = .ok (.invokestatic idx, 3)) (hp : pc + 3 = pc') (hm : tv_mt y My 1) (hs1 : Cond.static y ∈ lw_all) (hlk : Cond.methodLink M.2.2.1 idx y ∈ lw_all) (hL : tv_ent [x0] My.2.1 = Ly) (hLl : (tv_en [x0]).length ≤ My.2.1) (h8 : (st.map tv_cat).sum ≤ 8) (k : tvW My d (fun v G' => tvW M (d + 1) K pc' L (tv_pu v st) G' bc bs) 0 Ly [] G mc ms) : tvW M (d + 1) K pc L (x0 :: st) G (bc + mc) (bs + ms) := w_callS [x0] hd hp hm hs1 hlk rfl rfl hL hLl h8 k
theorem w_callI1 {x0 : XV} {idx : Nat} {y : MethodName} {My : tv_M} {r : Rl} (hd : decode M.1 pc = .ok (.invokespecial idx, 3)) (hp : pc + 3 = pc') (hm : tv_mt y My 1) (hy : y.name = "<init>") (hrt : My.2.2.2.1 = none) (hi1 : Cond.instanceMethod y ∈ lw_all) (hlk : Cond.methodLink M.2.2.1 idx y ∈ lw_all ∨ ∃ host, Cond.methodLinkNest M.2.2.1 idx y host ∈ lw_tbl) (hL : tv_ent (xR r :: [x0]) My.2.1 = Ly) (hLl : (tv_en (xR r :: [x0])).length ≤ My.2.1) (h8 : (st.map tv_cat).sum ≤ 8) (k : tvW My d (fun v G' => tvW M (d + 1) K pc' L (tv_pu v st) G' bc bs) 0 Ly [] G mc ms) : tvW M (d + 1) K pc L (x0 :: xR r :: st) G (bc + mc) (bs + ms) := w_callI r [x0] hd hp hm hy hrt hi1 hlk rfl rfl hL hLl h8 k
theorem w_callV1 {x0 : XV} {idx ci : Nat} {y : MethodName} {My : tv_M} {r : Rl} {fs : List XV} {q : vw_C} (hd : decode M.1 pc = .ok (.invokevirtual idx, 3)) (hp : pc + 3 = pc') (hm : tv_mt y My 1) (hi1 : Cond.instanceMethod y ∈ lw_all) (hq : vwCl[ci]? = some q) (hqy : y.cls = q.1) (hsel : Cond.selects q.1 y y ∈ lw_all) (hlk : Cond.methodLink M.2.2.1 idx y ∈ lw_all) (hG : G r = some (xob ci fs)) (hL : tv_ent (xR r :: [x0]) My.2.1 = Ly) (hLl : (tv_en (xR r :: [x0])).length ≤ My.2.1) (h8 : (st.map tv_cat).sum ≤ 8) (k : tvW My d (fun v G' => tvW M (d + 1) K pc' L (tv_pu v st) G' bc bs) 0 Ly [] G mc ms) : tvW M (d + 1) K pc L (x0 :: xR r :: st) G (bc + mc) (bs + ms) := w_callV r [x0] hd hp hm hi1 hq hqy hsel hlk hG rfl rfl hL hLl h8 k
theorem w_callS2 {x0 x1 : XV} {idx : Nat} {y : MethodName} {My : tv_M} (hd : decode M.1 pc = .ok (.invokestatic idx, 3)) (hp : pc + 3 = pc') (hm : tv_mt y My 2) (hs1 : Cond.static y ∈ lw_all) (hlk : Cond.methodLink M.2.2.1 idx y ∈ lw_all) (hL : tv_ent [x0, x1] My.2.1 = Ly) (hLl : (tv_en [x0, x1]).length ≤ My.2.1) (h8 : (st.map tv_cat).sum ≤ 8) (k : tvW My d (fun v G' => tvW M (d + 1) K pc' L (tv_pu v st) G' bc bs) 0 Ly [] G mc ms) : tvW M (d + 1) K pc L (x1 :: x0 :: st) G (bc + mc) (bs + ms) := w_callS [x0, x1] hd hp hm hs1 hlk rfl rfl hL hLl h8 k
theorem w_callI2 {x0 x1 : XV} {idx : Nat} {y : MethodName} {My : tv_M} {r : Rl} (hd : decode M.1 pc = .ok (.invokespecial idx, 3)) (hp : pc + 3 = pc') (hm : tv_mt y My 2) (hy : y.name = "<init>") (hrt : My.2.2.2.1 = none) (hi1 : Cond.instanceMethod y ∈ lw_all) (hlk : Cond.methodLink M.2.2.1 idx y ∈ lw_all ∨ ∃ host, Cond.methodLinkNest M.2.2.1 idx y host ∈ lw_tbl) (hL : tv_ent (xR r :: [x0, x1]) My.2.1 = Ly) (hLl : (tv_en (xR r :: [x0, x1])).length ≤ My.2.1) (h8 : (st.map tv_cat).sum ≤ 8) (k : tvW My d (fun v G' => tvW M (d + 1) K pc' L (tv_pu v st) G' bc bs) 0 Ly [] G mc ms) : tvW M (d + 1) K pc L (x1 :: x0 :: xR r :: st) G (bc + mc) (bs + ms) := w_callI r [x0, x1] hd hp hm hy hrt hi1 hlk rfl rfl hL hLl h8 k
theorem w_callV2 {x0 x1 : XV} {idx ci : Nat} {y : MethodName} {My : tv_M} {r : Rl} {fs : List XV} {q : vw_C} (hd : decode M.1 pc = .ok (.invokevirtual idx, 3)) (hp : pc + 3 = pc') (hm : tv_mt y My 2) (hi1 : Cond.instanceMethod y ∈ lw_all) (hq : vwCl[ci]? = some q) (hqy : y.cls = q.1) (hsel : Cond.selects q.1 y y ∈ lw_all) (hlk : Cond.methodLink M.2.2.1 idx y ∈ lw_all) (hG : G r = some (xob ci fs)) (hL : tv_ent (xR r :: [x0, x1]) My.2.1 = Ly) (hLl : (tv_en (xR r :: [x0, x1])).length ≤ My.2.1) (h8 : (st.map tv_cat).sum ≤ 8) (k : tvW My d (fun v G' => tvW M (d + 1) K pc' L (tv_pu v st) G' bc bs) 0 Ly [] G mc ms) : tvW M (d + 1) K pc L (x1 :: x0 :: xR r :: st) G (bc + mc) (bs + ms) := w_callV r [x0, x1] hd hp hm hi1 hq hqy hsel hlk hG rfl rfl hL hLl h8 k
theorem w_callS3 {x0 x1 x2 : XV} {idx : Nat} {y : MethodName} {My : tv_M} (hd : decode M.1 pc = .ok (.invokestatic idx, 3)) (hp : pc + 3 = pc') (hm : tv_mt y My 3) (hs1 : Cond.static y ∈ lw_all) (hlk : Cond.methodLink M.2.2.1 idx y ∈ lw_all) (hL : tv_ent [x0, x1, x2] My.2.1 = Ly) (hLl : (tv_en [x0, x1, x2]).length ≤ My.2.1) (h8 : (st.map tv_cat).sum ≤ 8) (k : tvW My d (fun v G' => tvW M (d + 1) K pc' L (tv_pu v st) G' bc bs) 0 Ly [] G mc ms) : tvW M (d + 1) K pc L (x2 :: x1 :: x0 :: st) G (bc + mc) (bs + ms) := w_callS [x0, x1, x2] hd hp hm hs1 hlk rfl rfl hL hLl h8 k
theorem w_callI3 {x0 x1 x2 : XV} {idx : Nat} {y : MethodName} {My : tv_M} {r : Rl} (hd : decode M.1 pc = .ok (.invokespecial idx, 3)) (hp : pc + 3 = pc') (hm : tv_mt y My 3) (hy : y.name = "<init>") (hrt : My.2.2.2.1 = none) (hi1 : Cond.instanceMethod y ∈ lw_all) (hlk : Cond.methodLink M.2.2.1 idx y ∈ lw_all ∨ ∃ host, Cond.methodLinkNest M.2.2.1 idx y host ∈ lw_tbl) (hL : tv_ent (xR r :: [x0, x1, x2]) My.2.1 = Ly) (hLl : (tv_en (xR r :: [x0, x1, x2])).length ≤ My.2.1) (h8 : (st.map tv_cat).sum ≤ 8) (k : tvW My d (fun v G' => tvW M (d + 1) K pc' L (tv_pu v st) G' bc bs) 0 Ly [] G mc ms) : tvW M (d + 1) K pc L (x2 :: x1 :: x0 :: xR r :: st) G (bc + mc) (bs + ms) := w_callI r [x0, x1, x2] hd hp hm hy hrt hi1 hlk rfl rfl hL hLl h8 k
theorem w_callV3 {x0 x1 x2 : XV} {idx ci : Nat} {y : MethodName} {My : tv_M} {r : Rl} {fs : List XV} {q : vw_C} (hd : decode M.1 pc = .ok (.invokevirtual idx, 3)) (hp : pc + 3 = pc') (hm : tv_mt y My 3) (hi1 : Cond.instanceMethod y ∈ lw_all) (hq : vwCl[ci]? = some q) (hqy : y.cls = q.1) (hsel : Cond.selects q.1 y y ∈ lw_all) (hlk : Cond.methodLink M.2.2.1 idx y ∈ lw_all) (hG : G r = some (xob ci fs)) (hL : tv_ent (xR r :: [x0, x1, x2]) My.2.1 = Ly) (hLl : (tv_en (xR r :: [x0, x1, x2])).length ≤ My.2.1) (h8 : (st.map tv_cat).sum ≤ 8) (k : tvW My d (fun v G' => tvW M (d + 1) K pc' L (tv_pu v st) G' bc bs) 0 Ly [] G mc ms) : tvW M (d + 1) K pc L (x2 :: x1 :: x0 :: xR r :: st) G (bc + mc) (bs + ms) := w_callV r [x0, x1, x2] hd hp hm hi1 hq hqy hsel hlk hG rfl rfl hL hLl h8 k
theorem w_callS4 {x0 x1 x2 x3 : XV} {idx : Nat} {y : MethodName} {My : tv_M} (hd : decode M.1 pc = .ok (.invokestatic idx, 3)) (hp : pc + 3 = pc') (hm : tv_mt y My 4) (hs1 : Cond.static y ∈ lw_all) (hlk : Cond.methodLink M.2.2.1 idx y ∈ lw_all) (hL : tv_ent [x0, x1, x2, x3] My.2.1 = Ly) (hLl : (tv_en [x0, x1, x2, x3]).length ≤ My.2.1) (h8 : (st.map tv_cat).sum ≤ 8) (k : tvW My d (fun v G' => tvW M (d + 1) K pc' L (tv_pu v st) G' bc bs) 0 Ly [] G mc ms) : tvW M (d + 1) K pc L (x3 :: x2 :: x1 :: x0 :: st) G (bc + mc) (bs + ms) := w_callS [x0, x1, x2, x3] hd hp hm hs1 hlk rfl rfl hL hLl h8 k
theorem w_callI4 {x0 x1 x2 x3 : XV} {idx : Nat} {y : MethodName} {My : tv_M} {r : Rl} (hd : decode M.1 pc = .ok (.invokespecial idx, 3)) (hp : pc + 3 = pc') (hm : tv_mt y My 4) (hy : y.name = "<init>") (hrt : My.2.2.2.1 = none) (hi1 : Cond.instanceMethod y ∈ lw_all) (hlk : Cond.methodLink M.2.2.1 idx y ∈ lw_all ∨ ∃ host, Cond.methodLinkNest M.2.2.1 idx y host ∈ lw_tbl) (hL : tv_ent (xR r :: [x0, x1, x2, x3]) My.2.1 = Ly) (hLl : (tv_en (xR r :: [x0, x1, x2, x3])).length ≤ My.2.1) (h8 : (st.map tv_cat).sum ≤ 8) (k : tvW My d (fun v G' => tvW M (d + 1) K pc' L (tv_pu v st) G' bc bs) 0 Ly [] G mc ms) : tvW M (d + 1) K pc L (x3 :: x2 :: x1 :: x0 :: xR r :: st) G (bc + mc) (bs + ms) := w_callI r [x0, x1, x2, x3] hd hp hm hy hrt hi1 hlk rfl rfl hL hLl h8 k
theorem w_callV4 {x0 x1 x2 x3 : XV} {idx ci : Nat} {y : MethodName} {My : tv_M} {r : Rl} {fs : List XV} {q : vw_C} (hd : decode M.1 pc = .ok (.invokevirtual idx, 3)) (hp : pc + 3 = pc') (hm : tv_mt y My 4) (hi1 : Cond.instanceMethod y ∈ lw_all) (hq : vwCl[ci]? = some q) (hqy : y.cls = q.1) (hsel : Cond.selects q.1 y y ∈ lw_all) (hlk : Cond.methodLink M.2.2.1 idx y ∈ lw_all) (hG : G r = some (xob ci fs)) (hL : tv_ent (xR r :: [x0, x1, x2, x3]) My.2.1 = Ly) (hLl : (tv_en (xR r :: [x0, x1, x2, x3])).length ≤ My.2.1) (h8 : (st.map tv_cat).sum ≤ 8) (k : tvW My d (fun v G' => tvW M (d + 1) K pc' L (tv_pu v st) G' bc bs) 0 Ly [] G mc ms) : tvW M (d + 1) K pc L (x3 :: x2 :: x1 :: x0 :: xR r :: st) G (bc + mc) (bs + ms) := w_callV r [x0, x1, x2, x3] hd hp hm hi1 hq hqy hsel hlk hG rfl rfl hL hLl h8 k
theorem w_callS5 {x0 x1 x2 x3 x4 : XV} {idx : Nat} {y : MethodName} {My : tv_M} (hd : decode M.1 pc = .ok (.invokestatic idx, 3)) (hp : pc + 3 = pc') (hm : tv_mt y My 5) (hs1 : Cond.static y ∈ lw_all) (hlk : Cond.methodLink M.2.2.1 idx y ∈ lw_all) (hL : tv_ent [x0, x1, x2, x3, x4] My.2.1 = Ly) (hLl : (tv_en [x0, x1, x2, x3, x4]).length ≤ My.2.1) (h8 : (st.map tv_cat).sum ≤ 8) (k : tvW My d (fun v G' => tvW M (d + 1) K pc' L (tv_pu v st) G' bc bs) 0 Ly [] G mc ms) : tvW M (d + 1) K pc L (x4 :: x3 :: x2 :: x1 :: x0 :: st) G (bc + mc) (bs + ms) := w_callS [x0, x1, x2, x3, x4] hd hp hm hs1 hlk rfl rfl hL hLl h8 k
theorem w_callI5 {x0 x1 x2 x3 x4 : XV} {idx : Nat} {y : MethodName} {My : tv_M} {r : Rl} (hd : decode M.1 pc = .ok (.invokespecial idx, 3)) (hp : pc + 3 = pc') (hm : tv_mt y My 5) (hy : y.name = "<init>") (hrt : My.2.2.2.1 = none) (hi1 : Cond.instanceMethod y ∈ lw_all) (hlk : Cond.methodLink M.2.2.1 idx y ∈ lw_all ∨ ∃ host, Cond.methodLinkNest M.2.2.1 idx y host ∈ lw_tbl) (hL : tv_ent (xR r :: [x0, x1, x2, x3, x4]) My.2.1 = Ly) (hLl : (tv_en (xR r :: [x0, x1, x2, x3, x4])).length ≤ My.2.1) (h8 : (st.map tv_cat).sum ≤ 8) (k : tvW My d (fun v G' => tvW M (d + 1) K pc' L (tv_pu v st) G' bc bs) 0 Ly [] G mc ms) : tvW M (d + 1) K pc L (x4 :: x3 :: x2 :: x1 :: x0 :: xR r :: st) G (bc + mc) (bs + ms) := w_callI r [x0, x1, x2, x3, x4] hd hp hm hy hrt hi1 hlk rfl rfl hL hLl h8 k
theorem w_callV5 {x0 x1 x2 x3 x4 : XV} {idx ci : Nat} {y : MethodName} {My : tv_M} {r : Rl} {fs : List XV} {q : vw_C} (hd : decode M.1 pc = .ok (.invokevirtual idx, 3)) (hp : pc + 3 = pc') (hm : tv_mt y My 5) (hi1 : Cond.instanceMethod y ∈ lw_all) (hq : vwCl[ci]? = some q) (hqy : y.cls = q.1) (hsel : Cond.selects q.1 y y ∈ lw_all) (hlk : Cond.methodLink M.2.2.1 idx y ∈ lw_all) (hG : G r = some (xob ci fs)) (hL : tv_ent (xR r :: [x0, x1, x2, x3, x4]) My.2.1 = Ly) (hLl : (tv_en (xR r :: [x0, x1, x2, x3, x4])).length ≤ My.2.1) (h8 : (st.map tv_cat).sum ≤ 8) (k : tvW My d (fun v G' => tvW M (d + 1) K pc' L (tv_pu v st) G' bc bs) 0 Ly [] G mc ms) : tvW M (d + 1) K pc L (x4 :: x3 :: x2 :: x1 :: x0 :: xR r :: st) G (bc + mc) (bs + ms) := w_callV r [x0, x1, x2, x3, x4] hd hp hm hi1 hq hqy hsel hlk hG rfl rfl hL hLl h8 k
theorem w_callS6 {x0 x1 x2 x3 x4 x5 : XV} {idx : Nat} {y : MethodName} {My : tv_M} (hd : decode M.1 pc = .ok (.invokestatic idx, 3)) (hp : pc + 3 = pc') (hm : tv_mt y My 6) (hs1 : Cond.static y ∈ lw_all) (hlk : Cond.methodLink M.2.2.1 idx y ∈ lw_all) (hL : tv_ent [x0, x1, x2, x3, x4, x5] My.2.1 = Ly) (hLl : (tv_en [x0, x1, x2, x3, x4, x5]).length ≤ My.2.1) (h8 : (st.map tv_cat).sum ≤ 8) (k : tvW My d (fun v G' => tvW M (d + 1) K pc' L (tv_pu v st) G' bc bs) 0 Ly [] G mc ms) : tvW M (d + 1) K pc L (x5 :: x4 :: x3 :: x2 :: x1 :: x0 :: st) G (bc + mc) (bs + ms) := w_callS [x0, x1, x2, x3, x4, x5] hd hp hm hs1 hlk rfl rfl hL hLl h8 k
theorem w_callI6 {x0 x1 x2 x3 x4 x5 : XV} {idx : Nat} {y : MethodName} {My : tv_M} {r : Rl} (hd : decode M.1 pc = .ok (.invokespecial idx, 3)) (hp : pc + 3 = pc') (hm : tv_mt y My 6) (hy : y.name = "<init>") (hrt : My.2.2.2.1 = none) (hi1 : Cond.instanceMethod y ∈ lw_all) (hlk : Cond.methodLink M.2.2.1 idx y ∈ lw_all ∨ ∃ host, Cond.methodLinkNest M.2.2.1 idx y host ∈ lw_tbl) (hL : tv_ent (xR r :: [x0, x1, x2, x3, x4, x5]) My.2.1 = Ly) (hLl : (tv_en (xR r :: [x0, x1, x2, x3, x4, x5])).length ≤ My.2.1) (h8 : (st.map tv_cat).sum ≤ 8) (k : tvW My d (fun v G' => tvW M (d + 1) K pc' L (tv_pu v st) G' bc bs) 0 Ly [] G mc ms) : tvW M (d + 1) K pc L (x5 :: x4 :: x3 :: x2 :: x1 :: x0 :: xR r :: st) G (bc + mc) (bs + ms) := w_callI r [x0, x1, x2, x3, x4, x5] hd hp hm hy hrt hi1 hlk rfl rfl hL hLl h8 k
theorem w_callV6 {x0 x1 x2 x3 x4 x5 : XV} {idx ci : Nat} {y : MethodName} {My : tv_M} {r : Rl} {fs : List XV} {q : vw_C} (hd : decode M.1 pc = .ok (.invokevirtual idx, 3)) (hp : pc + 3 = pc') (hm : tv_mt y My 6) (hi1 : Cond.instanceMethod y ∈ lw_all) (hq : vwCl[ci]? = some q) (hqy : y.cls = q.1) (hsel : Cond.selects q.1 y y ∈ lw_all) (hlk : Cond.methodLink M.2.2.1 idx y ∈ lw_all) (hG : G r = some (xob ci fs)) (hL : tv_ent (xR r :: [x0, x1, x2, x3, x4, x5]) My.2.1 = Ly) (hLl : (tv_en (xR r :: [x0, x1, x2, x3, x4, x5])).length ≤ My.2.1) (h8 : (st.map tv_cat).sum ≤ 8) (k : tvW My d (fun v G' => tvW M (d + 1) K pc' L (tv_pu v st) G' bc bs) 0 Ly [] G mc ms) : tvW M (d + 1) K pc L (x5 :: x4 :: x3 :: x2 :: x1 :: x0 :: xR r :: st) G (bc + mc) (bs + ms) := w_callV r [x0, x1, x2, x3, x4, x5] hd hp hm hi1 hq hqy hsel hlk hG rfl rfl hL hLl h8 k
theorem w_p1 {x : XV} (k : tvW M d K pc L (x :: st) G bc bs) : tvW M d K pc L (tv_pu (some x) st) G bc bs := k
theorem w_p0 (k : tvW M d K pc L st G bc bs) : tvW M d K pc L (tv_pu none st) G bc bs := k
end CALLS
