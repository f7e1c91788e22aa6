set_option maxRecDepth 10000
theorem mu_over {B : Array Value} {U : State} {ty : FieldType} (h : (Cond.arrayOver (.array ty)).before B U = true) : ∃ comp c k, U.vm.findClass (FieldType.array ty).toString = some comp ∧ U.vm.classes[c]? = some k ∧ k.kind = .array comp (.array ty) ∧ U.vm.findClass ("[" ++ (FieldType.array ty).toString) = some c := by
  simp only [Cond.before, Cond.holds, Cond.value, beq_iff_eq] at h
  rw [Option.bind_eq_some_iff] at h
  obtain ⟨comp, h1, h⟩ := h
  rw [Option.bind_eq_some_iff] at h
  obtain ⟨c, h2, h⟩ := h
  rw [Option.map_eq_some_iff] at h
  obtain ⟨k, h3, h⟩ := h
  obtain ⟨hlt, hp, -⟩ := Array.findIdx?_eq_some_iff_getElem.mp h2
  rw [(Array.getElem?_eq_some_iff.mp h3).2] at hp
  cases hk : k.kind with
  | array component ty' =>
    rw [hk] at h hp
    simp only [Bool.and_eq_true, decide_eq_true_eq, beq_iff_eq] at h hp
    exact ⟨comp, c, k, h1, h3, by rw [hk, hp, h.1], h.2⟩
  | _ => rw [hk] at h; simp at h
theorem tv_R_kept {O : tv_O} {ad : Rl → Nat} {dom : List Rl} {G : GH} {H H1 : Heap} (hR : tv_R O ad dom G H) (hs : H.size ≤ H1.size) (ho : ∀ q, q < H.size → H1[q]? = H[q]?) : tv_R O ad dom G H1 := by
  obtain ⟨h1, h2, h3, h4, h5, h6, h7, h8⟩ := hR
  refine ⟨h1.kept (fun k x hx => ho x.1 ((h1 k x hx).lt)), h2, h3, h4, h5, h6, Nat.le_trans h7 hs, fun q hq => ?_⟩
  rw [ho q (Nat.lt_of_lt_of_le hq h7), h8 q hq]
theorem tv_R_add {O : tv_O} {ad : Rl → Nat} {dom : List Rl} {G : GH} {H : Heap} (hR : tv_R O ad dom G H) {r : Rl} {e : XE} {q : Nat} (hr : G r = none) (h99 : r.1 ≠ 99) (hok : tv_okE G e) (hat : va_at O.2.1 vwCl (q, tv_c O.2.2.1 ad e) H) (hq : tv_A O q) (hne : ∀ x ∈ dom, ad x ≠ q) :
    ∃ ad' : Rl → Nat, ad' r = q ∧ (∀ x, tv_okr G x → ad' x = ad x) ∧ tv_R O ad' (dom ++ [r]) (gset G r e) H := by
  have hw : ∀ (k : Nat) (x : Nat × va_E), (tv_w O.2.2.1 ad dom G)[k]? = some x → x.1 ≠ q := by
    intro k x hx
    unfold tv_w at hx
    rw [List.getElem?_map, Option.map_eq_some_iff] at hx
    obtain ⟨z, hz, rfl⟩ := hx
    exact hne z (List.mem_of_getElem? hz)
  have one : ∀ (k : Nat) (x : Nat × va_E), ([(q, tv_c O.2.2.1 ad e)] : va_W)[k]? = some x → x = (q, tv_c O.2.2.1 ad e) := by
    intro k x hx
    have := List.mem_of_getElem? hx
    exact List.mem_singleton.mp this
  refine tv_R_push hR hr h99 hok (hR.1.app (fun k x hx => by rw [one k x hx]; exact hat)) ⟨?_, ?_⟩ ⟨hR.2.2.2.2.2.2.1, hR.2.2.2.2.2.2.2⟩
  · intro i j x y hx hy hxy
    by_cases hi : i < (tv_w O.2.2.1 ad dom G).length
    · rw [List.getElem?_append_left hi] at hx
      by_cases hj : j < (tv_w O.2.2.1 ad dom G).length
      · rw [List.getElem?_append_left hj] at hy
        exact hR.2.1.1 i j x y hx hy hxy
      · rw [List.getElem?_append_right (by omega)] at hy
        rw [one _ y hy] at hxy
        exact absurd hxy (hw i x hx)
    · rw [List.getElem?_append_right (by omega)] at hx
      by_cases hj : j < (tv_w O.2.2.1 ad dom G).length
      · rw [List.getElem?_append_left hj] at hy
        rw [one _ x hx] at hxy
        exact absurd hxy.symm (hw j y hy)
      · rw [List.getElem?_append_right (by omega)] at hy
        have h1 := (List.getElem?_eq_some_iff.mp hx).1
        have h2 := (List.getElem?_eq_some_iff.mp hy).1
        simp only [List.length_singleton] at h1 h2
        omega
  · intro k x hx
    by_cases hi : k < (tv_w O.2.2.1 ad dom G).length
    · rw [List.getElem?_append_left hi] at hx
      exact hR.2.1.2 k x hx
    · rw [List.getElem?_append_right (by omega)] at hx
      rw [one _ x hx]
      exact hq
/-- j inner arrays of B places stand at (tag, a, 0), (tag, a, 1) .. -/
def gmi (G : GH) (tag : Nat) (a : Int) (ti B : Nat) (j : Int) : GH := fun q => if q.1 = tag ∧ q.2.1 = a ∧ 0 ≤ q.2.2 ∧ q.2.2 < j then some (xar ti B (fun _ => 0)) else G q
theorem gmi_in {G : GH} {tag : Nat} {a i j : Int} {ti B : Nat} (h0 : 0 ≤ i) (h1 : i < j) : gmi G tag a ti B j (tag, a, i) = some (xar ti B (fun _ => 0)) := if_pos ⟨rfl, rfl, h0, h1⟩
theorem gmi_n {G : GH} {tag : Nat} {a j : Int} {ti B : Nat} {q : Rl} (h : q.1 ≠ tag) : gmi G tag a ti B j q = G q := if_neg (fun z => h z.1)
theorem gmi_s {G : GH} {tag : Nat} {a j : Int} {ti B : Nat} (hj : 0 ≤ j) : gset (gmi G tag a ti B j) (tag, a, j) (xar ti B (fun _ => 0)) = gmi G tag a ti B (j + 1) := by
  funext q
  unfold gset gmi
  by_cases h : q = (tag, a, j)
  · rw [if_pos h, if_pos (by rw [h]; exact ⟨rfl, rfl, hj, by show j < j + 1; omega⟩)]
  · rw [if_neg h]
    by_cases h2 : q.1 = tag ∧ q.2.1 = a ∧ 0 ≤ q.2.2 ∧ q.2.2 < j
    · rw [if_pos h2, if_pos ⟨h2.1, h2.2.1, h2.2.2.1, by omega⟩]
    · rw [if_neg h2, if_neg (fun z => h2 ⟨z.1, z.2.1, z.2.2.1, by
        have : q.2.2 ≠ j := fun e => h (by obtain ⟨x, y, w⟩ := q; simp only at z e; rw [z.1, z.2.1, e])
        omega⟩)]
theorem gmi_0 {G : GH} {tag : Nat} {a : Int} {ti B : Nat} : gmi G tag a ti B 0 = G := by
  funext q; unfold gmi; rw [if_neg (by omega)]
theorem gmi_okr {G : GH} {tag : Nat} {a j : Int} {ti B : Nat} {x : Rl} (h : tv_okr G x) : tv_okr (gmi G tag a ti B j) x := by
  rcases h with h | h
  · left
    unfold gmi
    split
    · exact fun z => by cases z
    · exact h
  · exact Or.inr h
theorem mu_ad {O : tv_O} {ad : Rl → Nat} {dom : List Rl} {G : GH} {H1 : Heap} {h tag ti B : Nat} {a : Int} (hR : tv_R O ad dom G H1) (hti : ti < 5) (hB : B ≤ 100000) (hf : ∀ i, G (tag, a, i) = none) (h99 : tag ≠ 99) (hh : O.1.heap.size ≤ h) (hd : ∀ x ∈ dom, ad x < h) :
    ∀ (A : Nat), (∀ j : Nat, j < A → H1[h + 1 + j]? = some (vp_cell (O.2.2.1 ti) (B, if ti = 4 then .inr (.inl fun _ => Int64.ofInt 0) else .inl fun _ => Int32.ofInt 0))) →
      ∃ (ad' : Rl → Nat) (dom' : List Rl), (∀ x, tv_okr G x → ad' x = ad x) ∧ (∀ i : Nat, i < A → ad' (tag, a, (i : Int)) = h + 1 + i) ∧ tv_R O ad' dom' (gmi G tag a ti B A) H1 ∧ ∀ x ∈ dom', ad' x < h ∨ ∃ i : Nat, i < A ∧ ad' x = h + 1 + i := by
  intro A
  induction A with
  | zero => intro _; exact ⟨ad, dom, fun _ _ => rfl, fun i hi => by omega, by rw [show ((0 : Nat) : Int) = 0 from rfl, gmi_0]; exact hR, fun x hx => Or.inl (hd x hx)⟩
  | succ A ih =>
    intro hc
    obtain ⟨ad1, dom1, a1, a2, a3, a4⟩ := ih (fun j hj => hc j (by omega))
    have hok : tv_okE (gmi G tag a ti B A) (xar ti B (fun _ => 0)) := by
      refine ⟨⟨hti, by omega⟩, fun i => ?_⟩
      match ti, hti with
      | 0, _ => exact ⟨by show (_ : Int) ≤ 0; omega, by show (0 : Int) ≤ _; omega⟩
      | 1, _ => exact ⟨by show (_ : Int) ≤ 0; omega, by show (0 : Int) ≤ _; omega⟩
      | 2, _ => exact ⟨by show (_ : Int) ≤ 0; omega, by show (0 : Int) ≤ _; omega⟩
      | 3, _ => exact Or.inl rfl
      | 4, _ => exact ⟨by show (_ : Int) ≤ 0; omega, by show (0 : Int) ≤ _; omega⟩
    have hnone : gmi G tag a ti B A (tag, a, (A : Int)) = none := by
      unfold gmi
      rw [if_neg (by show ¬ (tag = tag ∧ a = a ∧ 0 ≤ (A : Int) ∧ (A : Int) < A); omega)]
      exact hf A
    obtain ⟨ad2, b1, b2, b3⟩ := tv_R_add (q := h + 1 + A) a3 hnone h99 hok (hc A (by omega)) (show O.1.heap.size ≤ h + 1 + A by omega) (fun x hx => by
      rcases a4 x hx with w | ⟨i, w, w2⟩ <;> omega)
    refine ⟨ad2, dom1 ++ [(tag, a, (A : Int))], fun x hx => by rw [b2 x (gmi_okr hx), a1 x hx], fun i hi => ?_, ?_, fun x hx => ?_⟩
    · by_cases e : i = A
      · rw [e]; exact b1
      · rw [b2 _ (Or.inl (by rw [gmi_in (by omega) (by omega)]; exact fun z => by cases z))]
        exact a2 i (by omega)
    · rw [show ((A + 1 : Nat) : Int) = (A : Int) + 1 by omega, ← gmi_s (by omega)]
      exact b3
    · rcases List.mem_append.mp hx with w | w
      · have hxo : tv_okr (gmi G tag a ti B A) x := Or.inl ((a3.2.2.1 x).mp w)
        rw [b2 x hxo]
        rcases a4 x w with z | ⟨i, z1, z2⟩
        · exact Or.inl z
        · exact Or.inr ⟨i, by omega, z2⟩
      · rw [List.mem_singleton.mp w, b1]
        exact Or.inr ⟨A, by omega, rfl⟩
def mrow (tag : Nat) (a : Int) (A : Nat) : Int → Option Rl := fun i => if 0 ≤ i ∧ i < A then some (tag, a, i) else none
section
variable {M : tv_M} {d : Nat} {K : Option XV → GH → Prop} {pc pc' : Nat} {L : List (Option XV)} {st : List XV} {G : GH} {bc bs : Nat}
theorem w_multi {idx t ti : Nat} {za zb : Int} {nm : String} (r : Rl) (tag : Nat) (a : Int) (A B : Nat) (hd : decode M.1 pc = .ok (.multianewarray idx 2, 4)) (hp : pc + 4 = pc') (hti : ti < 5) (ht : tv_aty t = .array (tv_aty ti)) (ht8 : 8 ≤ t ∧ t < 13) (hlink : Cond.classLink M.2.2.1 idx nm ∈ lw_all) (hnm : nm = "[" ++ (tv_aty t).toString) (hao : Cond.arrayOver (tv_aty t) ∈ lw_tbl)
    (hza : za = (A : Int)) (hzb : zb = (B : Int)) (hA : A ≤ 100000) (hB : B ≤ 100000) (hr : G r = none) (hr9 : r.1 ≠ 99) (ht9 : tag ≠ 99) (hrt : r.1 ≠ tag) (hf : ∀ i, G (tag, a, i) = none)
    (kk : tvW M d K pc' L (xR r :: st) (gset (gmi G tag a ti B A) r (xra t A (mrow tag a A))) bc bs) : tvW M d K pc L (xI zb :: xI za :: st) G (bc + (1 + A)) (bs + (A + A * B)) := by
  intro O ad0 G0 p l e R s m args below meth c Q E ad dom H locs cells slots ls S
  obtain ⟨hR, hst, hL, hlv, hlen, hS, hxt, hc, hs⟩ := S
  subst hp
  have E0 := E
  obtain ⟨hx, hb, hml, hown, hts, hini, hW, hO, hrm, hfr, hret⟩ := E
  subst hza; subst hzb
  have hst := (tv_oks_c.mp (tv_oks_c.mp hst).2).2
  obtain ⟨b0, hb0, -⟩ := hO.1
  have hKs := tv_K hO hW
  obtain ⟨hk1, hra1⟩ := hKs.2 t _ (tv_ty ht8.2)
  obtain ⟨hk2, hra2⟩ := hKs.2 ti _ (tv_ty (by omega))
  simp only at hk1 hra1 hk2 hra2
  rw [ht] at hk1 hra1 hao
  obtain ⟨-, k1, q1, comp1, q2⟩ := hk1 0 (fun _ => .null)
  obtain ⟨-, k2, q3, comp2, q4⟩ := hk2 0 (fun _ => .null)
  have hra1 : s.vm.findClass ("[" ++ (FieldType.array (tv_aty ti)).toString) = some (O.2.2.1 t) := hra1
  obtain ⟨compO, cO, kO, o1, o2, o3, o4⟩ := mu_over (hb0 _ hao)
  have hal : O.1.vm.Alike s.vm := hW.alike
  have o1' : s.vm.findClass (FieldType.array (tv_aty ti)).toString = some compO := by rw [hal.findClass]; exact o1
  have o4' : s.vm.findClass ("[" ++ (FieldType.array (tv_aty ti)).toString) = some cO := by rw [hal.findClass]; exact o4
  have hcO : cO = O.2.2.1 t := Option.some.inj (o4'.symm.trans hra1)
  subst hcO
  obtain ⟨kO', o2', o3'⟩ := hal.2.2 _ _ o2
  have hkk : k1 = kO' := Option.some.inj (q1.symm.trans o2')
  have hcomp1 : comp1 = compO := by
    rw [hkk, o3'] at q2
    have q2' : kO.kind = .array comp1 (.array (tv_aty ti)) := q2
    rw [o3] at q2'
    injection q2' with z1 z2
    exact z1.symm
  have hin : s.vm.findClass (FieldType.array (tv_aty ti)).toString = some (O.2.2.1 ti) := by
    match ti, hti, hra2 with
    | 0, _, h => exact h
    | 1, _, h => exact h
    | 2, _, h => exact h
    | 3, _, h => exact h
    | 4, _, h => exact h
  have hci : comp1 = O.2.2.1 ti := by rw [hcomp1]; exact Option.some.inj (o1'.symm.trans hin)
  subst hci
  refine mu_W (A := A) (B := B) hx hb hown (hts _ hlink) (by rw [hnm, ht]; exact hra1) q1 q2 q3 q4 hd (fun q => by rw [e_0, e_lt ⟨by omega, by omega⟩ ⟨by omega, by omega⟩] at q; omega) (fun q => by rw [e_0, e_lt ⟨by omega, by omega⟩ ⟨by omega, by omega⟩] at q; omega) (by show (Int32.ofInt _).toInt.toNat = _; rw [e_toInt ⟨by omega, by omega⟩]; omega) (by show (Int32.ofInt _).toInt.toNat = _; rw [e_toInt ⟨by omega, by omega⟩]; omega) hA hB ?_ ?_ (by omega) (by omega) ?_
  · match ti, hti with
    | 0, _ => rfl
    | 1, _ => rfl
    | 2, _ => rfl
    | 3, _ => rfl
    | 4, _ => rfl
  · match ti, hti with
    | 0, _ => decide
    | 1, _ => decide
    | 2, _ => decide
    | 3, _ => decide
    | 4, _ => decide
  · intro H1 locs1 hlo hsz hold ⟨sl, u1, u2, u3⟩ hin
    have hR1 := tv_R_kept (H1 := H1) hR (by omega) hold
    have hoh : O.1.heap.size ≤ H.size := hR.2.2.2.2.2.2.1
    have hdl : ∀ x ∈ dom, ad x < H.size := by
      intro x hx
      obtain ⟨i, hi⟩ := List.getElem?_of_mem hx
      have := hR.1 i (ad x, tv_c O.2.2.1 ad ((G x).getD (.inl (0, [])))) (by unfold tv_w; rw [List.getElem?_map, hi]; rfl)
      exact this.lt
    obtain ⟨ad1, dom1, a1, a2, a3, a4⟩ := mu_ad (h := H.size) (tag := tag) (ti := ti) (B := B) (a := a) hR1 hti hB hf ht9 hoh hdl A (fun j hj => by
      rw [hin j hj, arrV_new]
      match ti, hti with
      | 0, _ => rfl
      | 1, _ => rfl
      | 2, _ => rfl
      | 3, _ => rfl
      | 4, _ => rfl)
    have hok : tv_okE (gmi G tag a ti B A) (xra t A (mrow tag a A)) := by
      refine ⟨⟨by omega, ht8.2, by omega⟩, fun i r' h => ?_⟩
      unfold mrow at h
      split at h
      · rename_i q
        cases h
        exact Or.inl (by rw [gmi_in q.1 q.2]; exact fun z => by cases z)
      · cases h
    have hcell : H1[H.size]? = some (vp_cell (O.2.2.1 t) (A, .inr (.inr (.inr (.inr fun j : Nat => (mrow tag a A (j : Int)).map ad1))))) := by
      rw [u1]
      have hsl : sl = Array.ofFn (n := A) fun j => va_rf ((mrow tag a A (j.val : Int)).map ad1) := by
        apply Array.ext
        · simp [u2]
        · intro j h1 h2
          have hj : j < A := by omega
          have e1 := u3 j hj
          rw [Array.getElem?_eq_getElem h1] at e1
          have e2 : sl[j] = .ref (H.size + 1 + j) := Option.some.inj e1
          rw [e2, Array.getElem_ofFn]
          have e3 : mrow tag a A (j : Int) = some (tag, a, (j : Int)) := if_pos ⟨by omega, by omega⟩
          rw [e3]
          show Value.ref (H.size + 1 + j) = Value.ref (ad1 (tag, a, (j : Int)))
          rw [a2 j hj]
      rw [hsl]
      rfl
    obtain ⟨ad2, b1, b2, b3⟩ := tv_R_add (r := r) (e := xra t A (mrow tag a A)) (q := H.size) a3 (by rw [gmi_n hrt]; exact hr) hr9 hok hcell hoh (fun x hx => by
      rcases a4 x hx with w | ⟨i, w, w2⟩ <;> omega)
    have hA2 : ∀ x, tv_okr G x → ad2 x = ad x := fun x hx => by rw [b2 x (gmi_okr hx), a1 x hx]
    have hmono : ∀ x, tv_okr G x → tv_okr (gset (gmi G tag a ti B A) r (xra t A (mrow tag a A))) x := fun x hx => tv_okr_set (gmi_okr hx)
    have hst' := tv_map_ext hA2 hst
    have hpr := tv_pr_ext (i := 0) hA2 hL
    have hokr : tv_okr (gset (gmi G tag a ti B A) r (xra t A (mrow tag a A))) r := Or.inl (by rw [gset_s]; exact fun h => by cases h)
    have hS1 : va_S (tv_A O) s.heap H1 (locs ++ locs1) := by
      refine ⟨by have := hS.1; omega, fun q hq1 hq2 => ?_, fun q hq => ?_⟩
      · rw [hold q (by have := hS.1; omega)]; exact hS.2.1 q hq1 hq2
      · rcases List.mem_append.mp hq with w | w
        · exact hS.2.2 q w
        · show O.1.heap.size ≤ q.base
          rw [hlo q w]; exact hoh
    have := kk O ad0 G0 p l e R s m args below meth c Q E0 ad2 (dom1 ++ [r]) H1 (locs ++ locs1) (cells + 1 + A) (slots + A + A * B) ls ⟨b3, tv_oks_c.mpr ⟨hokr, tv_oks_mono hmono hst⟩, tv_okL_mono hmono hL, by rw [hpr]; exact hlv, hlen, hS1, fun x hx => ⟨(hA2 x (hxt x hx).2).trans (hxt x hx).1, hmono x (hxt x hx).2⟩, by omega, by omega⟩
    rw [List.map_cons, hst', show tv_e ad2 (xR r) = .ref H.size by rw [← b1]; rfl] at this
    exact this
end
