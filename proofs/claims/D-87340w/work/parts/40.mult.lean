set_option maxRecDepth 10000
/-! an array of arrays is made (multianewarray): no row of the kit says it -/
section MULT
variable {E : CtlPost} {e : Env} {d : Bool} {acts : List Action}
theorem mu_new {Q : Addr → Pre} {T : State} {f : JFrame} {c : ClassId} {n : Nat} {v : Value} {k : Class} {comp : ClassId} {ty : FieldType} (hk : T.vm.classes[c]? = some k) (hkind : k.kind = .array comp ty) (hl : ¬ n > e.platform.arrayLengthLimit) (hh : ¬ n * componentBytes ty > e.platform.maxHeapBytes) (hf : fits ty v = true) (h1 : T.heap.size < e.platform.maxCells) (h2 : T.slotsUsed + n ≤ e.platform.maxSlots)
    (hq : ∀ acts', Q T.heap.size d acts' ((T.pushCell { cls := c, slots := Array.replicate n v, vm := .none }).setTop f)) : wp (Jvm.newArray c n v) Q E e d acts (T.setTop f) := by
  have hfit : ∀ i w, (Array.replicate n v)[i]? = some w → T.fitsSlot c .none i w = true := by
    intro i w hw
    simp only [Array.getElem?_replicate] at hw
    split at hw
    · cases hw; simp [State.fitsSlot, State.slotType?, hk, hkind, hf]
    · cases hw
  simp only [Jvm.newArray, Jvm.arrayFits, wp_bind', Jvm.W.ask, Jvm.W.ite, hl, if_false, wp_pure', Jvm.W.theClass, State.vm_setTop, hk, Option.some.injEq, exists_eq_left', hkind, hh, Jvm.W.alloc, Jvm.W.stop, State.heap_setTop, State.slotsUsed_setTop, State.fitsSlot_setTop, Array.size_replicate, State.pushCell_setTop]
  rw [if_neg (by omega)]
  exact ⟨h1, h2, hfit, hq _⟩
variable {p : Program} {l : Launch} {R : Room} {s : State} {m : MethodId} {args : Array Value} {below : List Frame} {meth : Method} {c : Code}
/-- i of A inner arrays (of B places each) are made, the outer one at h holds them -/
def mu_I (p : Program) (l : Launch) (e : Env) (R : Room) (s : State) (m : MethodId) (args : Array Value) (below : List Frame) (meth : Method) (c : Code) (locs0 : List Loc) (cells slots : Nat) (T0 : State) (c1 c2 : ClassId) (A B : Nat) (dv : Value) (i : Nat) (T : State) : Prop :=
  (∃ locs, Stand p l e R s m args below meth c T (locs0 ++ locs) (cells + 1 + i) (slots + A + i * B) ∧ ∀ q ∈ locs, q.base = T0.heap.size) ∧ T.vm = T0.vm ∧ T.slotsUsed = T0.slotsUsed + A + i * B ∧ T.heap.size = T0.heap.size + 1 + i ∧ (∀ q, q < T0.heap.size → T.heap[q]? = T0.heap[q]?) ∧
  (∃ sl : Array Value, T.heap[T0.heap.size]? = some { cls := c1, slots := sl, vm := .none } ∧ sl.size = A ∧ ∀ j, j < A → sl[j]? = some (if j < i then .ref (T0.heap.size + 1 + j) else .null)) ∧ ∀ j, j < i → T.heap[T0.heap.size + 1 + j]? = some { cls := c2, slots := Array.replicate B dv, vm := .none }
theorem mu_0 {locs : List Loc} {cells slots : Nat} {T : State} {c1 c2 : ClassId} {A B : Nat} {dv : Value} (X : Stand p l e R s m args below meth c T locs cells slots) : mu_I p l e R s m args below meth c locs cells slots T c1 c2 A B dv 0 (T.pushCell { cls := c1, slots := Array.replicate A .null, vm := .none }) := by
  have h := X.pushed { cls := c1, slots := Array.replicate A .null, vm := .none }
  refine ⟨⟨[], by simpa using h, fun q hq => by cases hq⟩, rfl, ?_, ?_, ?_, ⟨Array.replicate A .null, by simp, by simp, fun j hj => ?_⟩, fun j hj => by omega⟩
  · show T.slotsUsed + (Array.replicate A Value.null).size = _
    simp
  · simp
  · intro q hq
    rw [State.heap_pushCell, Array.getElem?_push, if_neg (Nat.ne_of_lt hq)]
  · rw [if_neg (by omega), Array.getElem?_replicate, if_pos hj]
theorem mu_s {locs : List Loc} {cells slots : Nat} {T0 T : State} {c1 c2 : ClassId} {A B : Nat} {dv : Value} {i : Nat} (hi : i < A) (h : mu_I p l e R s m args below meth c locs cells slots T0 c1 c2 A B dv i T) :
    ∃ sl : Array Value, (T.pushCell { cls := c2, slots := Array.replicate B dv, vm := .none }).heap[T0.heap.size]? = some { cls := c1, slots := sl, vm := .none } ∧ i < sl.size ∧
      mu_I p l e R s m args below meth c locs cells slots T0 c1 c2 A B dv (i + 1) ((T.pushCell { cls := c2, slots := Array.replicate B dv, vm := .none }).setCell T0.heap.size (({ cls := c1, slots := sl, vm := .none } : Cell).setSlot i (.ref T.heap.size))) := by
  obtain ⟨⟨locs', X, hlo⟩, hvm, hsu, hsz, hold, ⟨sl, e1, e2, e3⟩, hin⟩ := h
  have hlt : T0.heap.size < T.heap.size := by omega
  have hc : (T.pushCell { cls := c2, slots := Array.replicate B dv, vm := .none }).heap[T0.heap.size]? = some { cls := c1, slots := sl, vm := .none } := by
    rw [State.heap_pushCell, Array.getElem?_push, if_neg (Nat.ne_of_lt hlt)]; exact e1
  refine ⟨sl, hc, by omega, ?_⟩
  have X2 := (X.pushed { cls := c2, slots := Array.replicate B dv, vm := .none }).stored hc i (.ref T.heap.size)
  have e4 : ∀ q, q ≠ T0.heap.size → ((T.pushCell { cls := c2, slots := Array.replicate B dv, vm := .none }).setCell T0.heap.size (({ cls := c1, slots := sl, vm := .none } : Cell).setSlot i (.ref T.heap.size))).heap[q]? = (T.heap.push { cls := c2, slots := Array.replicate B dv, vm := .none })[q]? := by
    intro q hq
    show (Array.setIfInBounds _ _ _)[q]? = _
    rw [Array.getElem?_setIfInBounds_ne (Ne.symm hq)]
    rfl
  refine ⟨⟨locs' ++ [⟨T0.heap.size, i⟩], ?_, ?_⟩, hvm, ?_, ?_, ?_, ⟨sl.setIfInBounds i (.ref T.heap.size), ?_, ?_, ?_⟩, ?_⟩
  · rw [← List.append_assoc]
    have e5 : slots + A + (i + 1) * B = slots + A + i * B + (Array.replicate B dv).size := by rw [Nat.succ_mul, Array.size_replicate]; omega
    rw [e5]
    exact X2
  · intro q hq
    rcases List.mem_append.mp hq with w | w
    · exact hlo q w
    · rw [List.mem_singleton.mp w]
  · show T.slotsUsed + (Array.replicate B dv).size = _
    rw [Nat.succ_mul, Array.size_replicate, hsu]; omega
  · show (Array.setIfInBounds _ _ _).size = _
    rw [Array.size_setIfInBounds]
    show (T.heap.push _).size = _
    rw [Array.size_push]; omega
  · intro q hq
    rw [e4 q (Nat.ne_of_lt hq), Array.getElem?_push, if_neg (by omega)]
    exact hold q hq
  · show (Array.setIfInBounds _ _ _)[_]? = _
    rw [Array.getElem?_setIfInBounds_self_of_lt (by show _ < (T.heap.push _).size; rw [Array.size_push]; omega)]
    rfl
  · rw [Array.size_setIfInBounds]; exact e2
  · intro j hj
    by_cases q : j = i
    · subst q
      rw [Array.getElem?_setIfInBounds_self_of_lt (by omega), if_pos (by omega), hsz]
    · rw [Array.getElem?_setIfInBounds_ne (Ne.symm q), e3 j hj]
      by_cases w : j < i
      · rw [if_pos w, if_pos (by omega)]
      · rw [if_neg w, if_neg (by omega)]
  · intro j hj
    rw [e4 _ (by omega), Array.getElem?_push]
    by_cases q : j = i
    · rw [if_pos (by omega)]
    · rw [if_neg (by omega)]; exact hin j (by omega)
theorem mu_wp {Q : Addr → Pre} {locs : List Loc} {cells slots : Nat} {T0 : State} {f : JFrame} {c1 c2 comp : ClassId} {k1 k2 : Class} {ty : FieldType} {a b : Int32} {A B : Nat} (X : Stand p l e R s m args below meth c T0 locs cells slots)
    (hk1 : T0.vm.classes[c1]? = some k1) (hd1 : k1.kind = .array c2 (.array ty)) (hk2 : T0.vm.classes[c2]? = some k2) (hd2 : k2.kind = .array comp ty) (ha : ¬ a < 0) (hb : ¬ b < 0) (hA : a.toNatClampNeg = A) (hB : b.toNatClampNeg = B)
    (hl1 : ¬ A > e.platform.arrayLengthLimit) (hh1 : ¬ A * componentBytes (.array ty) > e.platform.maxHeapBytes) (hl2 : ¬ B > e.platform.arrayLengthLimit) (hh2 : ¬ B * componentBytes ty > e.platform.maxHeapBytes) (hf : fits ty (defaultValue ty) = true)
    (hc : T0.heap.size + 1 + A ≤ e.platform.maxCells) (hs : T0.slotsUsed + A + A * B ≤ e.platform.maxSlots)
    (hq : ∀ T d' acts', mu_I p l e R s m args below meth c locs cells slots T0 c1 c2 A B (defaultValue ty) A T → Q T0.heap.size d' acts' (T.setTop f)) : wp (multianewarray.make c1 [a, b]) Q E e d acts (T0.setTop f) := by
  simp only [multianewarray.make, wp_bind', Jvm.W.ite, ha, if_false, wp_pure', Jvm.W.theClass, State.vm_setTop, hk1, Option.some.injEq, exists_eq_left', hd1, hA]
  refine mu_new hk1 hd1 hl1 hh1 rfl (by omega) (by omega) (fun acts1 => ?_)
  have hfind : List.find? (fun x => decide (x < 0)) [b] = none := by simp [hb]
  rw [hfind]
  simp only [ite_self, hb, if_false, wp_bind', hB]
  rw [Std.Legacy.Range.forIn_eq_forIn_range']
  refine wp_forIn_inv (fun rest S => ∃ i T, rest = List.range' i (A - i) ∧ i ≤ A ∧ S = T.setTop f ∧ mu_I p l e R s m args below meth c locs cells slots T0 c1 c2 A B (defaultValue ty) i T) _ _ ⟨0, _, by simp [Std.Legacy.Range.size], Nat.zero_le _, rfl, mu_0 X⟩ ?_ ?_
  · rintro i0 rest S d1 acts2 Q' ⟨i, T, hr, hi, rfl, hI⟩ hQ'
    have hlt : i < A := by
      rcases Nat.lt_or_ge i A with w | w
      · exact w
      · rw [show A - i = 0 by omega] at hr; cases hr
    rw [show A - i = (A - (i + 1)) + 1 by omega, List.range'_succ] at hr
    obtain ⟨w1, w2⟩ := List.cons.inj hr
    rw [w2] at hQ'
    rw [w1]
    have hI0 := hI
    obtain ⟨-, hvm, hsu, hsz, -, -, -⟩ := hI0
    have hAB : (i + 1) * B ≤ A * B := Nat.mul_le_mul_right B hlt
    rw [Nat.succ_mul] at hAB
    simp only [wp_bind', Jvm.W.theClass, State.vm_setTop, hvm, hk2, Option.some.injEq, exists_eq_left', hd2]
    refine mu_new (k := k2) (comp := comp) (ty := ty) (by rw [hvm]; exact hk2) hd2 hl2 hh2 hf (by omega) (by omega) (fun acts3 => ?_)
    obtain ⟨sl, q1, q2, q3⟩ := mu_s hlt hI

    simp only [wp_bind', Jvm.W.writeLoc, State.heap_setTop, wp_pure', State.setCell_setTop]
    refine ⟨_, q1, (fun w => by cases w), q2, ?_, ?_⟩
    · simp [State.fitsSlot, State.slotType?, hvm, hk1, hd1, fits]
    · exact hQ' _ _ _ ⟨i + 1, _, rfl, hlt, rfl, q3⟩
  · rintro S d1 acts2 ⟨i, T, hr, hi, rfl, hI⟩
    have hiA : i = A := by
      rcases Nat.lt_or_ge i A with w | w
      · rw [show A - i = (A - (i + 1)) + 1 by omega, List.range'_succ] at hr; cases hr
      · omega
    subst hiA
    simp only [wp_pure', State.heap_setTop]
    exact hq T _ _ hI
theorem mu_W {cc : ByteArray} {H : Heap} {locs : List Loc} {cells slots : Nat} {Q : State → Prop} {own nm : String} {index pc : Nat} {ls : Array Slot} {rest : List Value} {c1 c2 comp : ClassId} {k1 k2 : Class} {ty : FieldType} {a b : Int32} {A B : Nat} (hexec : p.tables.exec = Jvm.exec) (hb : c.code = cc) (hown : s.vm.findClass own = some m.cls) (hcl : (Cond.classLink own index nm).before args s = true)
    (hf1 : s.vm.findClass nm = some c1) (hk1 : s.vm.classes[c1]? = some k1) (hd1 : k1.kind = .array c2 (.array ty)) (hk2 : s.vm.classes[c2]? = some k2) (hd2 : k2.kind = .array comp ty) (hdg : decode cc pc = .ok (.multianewarray index 2, 4))
    (ha : ¬ a < 0) (hb' : ¬ b < 0) (hA : a.toNatClampNeg = A) (hB : b.toNatClampNeg = B) (hA1 : A ≤ 100000) (hB1 : B ≤ 100000) (hf : fits ty (defaultValue ty) = true) (hcb : componentBytes ty ≤ 8) (hc : cells + (1 + A) ≤ R.cells) (hs : slots + (A + A * B) ≤ R.slots)
    (kk : ∀ (H1 : Heap) (locs1 : List Loc), (∀ q ∈ locs1, q.base = H.size) → H1.size = H.size + 1 + A → (∀ q, q < H.size → H1[q]? = H[q]?) →
      (∃ sl : Array Value, H1[H.size]? = some { cls := c1, slots := sl, vm := .none } ∧ sl.size = A ∧ ∀ j, j < A → sl[j]? = some (.ref (H.size + 1 + j))) → (∀ j, j < A → H1[H.size + 1 + j]? = some { cls := c2, slots := Array.replicate B (defaultValue ty), vm := .none }) →
      W p l e R s m args below meth c H1 (locs ++ locs1) (cells + 1 + A) (slots + A + A * B) Q (F0 m (pc + 4) ls (.ref H.size :: rest))) :
    W p l e R s m args below meth c H locs cells slots Q (F0 m pc ls (.int b :: .int a :: rest)) := by
  intro T hT X
  subst hb
  have hpl : e.platform.magicAccessors = ({} : Platform).magicAccessors := by rw [X.admits.platform]
  obtain ⟨c0, hfc0, hclr⟩ := Cond.classLink_spec hown hcl e.platform hpl
  cases hf1.symm.trans hfc0
  obtain ⟨hg1, hwarm1, -⟩ := State.classEntry (e := e) X.warmed hclr
  generalize T.vm.noted m.cls index (.cls c1) = vm1 at hg1 hwarm1
  have X1 := X.noted hwarm1
  have hal : s.vm.Alike vm1 := hwarm1.alike
  obtain ⟨k1', hk1', e1⟩ := hal.2.2 _ _ hk1
  obtain ⟨k2', hk2', e2⟩ := hal.2.2 _ _ hk2
  obtain ⟨hr1, hr2⟩ := X.roomAbove hc hs
  have hmul : B * componentBytes ty ≤ 800000 := Nat.le_trans (Nat.mul_le_mul hB1 hcb) (by decide)
  have hrun : wpRun (Jvm.exec (.multianewarray index 2)) (fun _ S _ => ∃ T2, mu_I p l e R s m args below meth c locs cells slots (T.setVm vm1) c1 c2 A B (defaultValue ty) A T2 ∧ S = T2.setTop (F0 m pc ls (.ref T.heap.size :: rest))) (fun _ _ _ => False) e (T.setTop (F0 m pc ls (.int b :: .int a :: rest))) := by
    show wp (multianewarray.sem index 2) _ _ _ _ _ _
    simp only [multianewarray.sem, wp_bind', Jvm.W.resolveClassAt_links (State.method?_setTop (F0 m pc ls (.int b :: .int a :: rest)) X.here.top) hg1]
    rw [Jvm.W.popN, if_neg (by decide)]
    refine ⟨F0 m pc ls (.int b :: .int a :: rest), State.topJava?_setTop' (s := T.setVm vm1) _ X.here.top, [.int a, .int b], rest, rfl, rfl, ?_⟩
    simp only [List.mapM_cons, List.mapM_nil, wp_bind', wp_pure']
    have eS : ((T.setTop (F0 m pc ls (.int b :: .int a :: rest))).setVm vm1).setTop (F0 m pc ls rest) = (T.setVm vm1).setTop (F0 m pc ls rest) := by
      show ((T.setVm vm1).setTop _).setTop _ = _
      rw [State.setTop_setTop]
    show wp _ _ _ _ _ _ (((T.setTop (F0 m pc ls (.int b :: .int a :: rest))).setVm vm1).setTop (F0 m pc ls rest))
    rw [eS]
    refine mu_wp X1 hk1' (by rw [e1]; exact hd1) hk2' (by rw [e2]; exact hd2) ha hb' hA hB (by rw [Launch.admits_arrayLengthLimit X.admits]; omega) (by rw [Launch.admits_maxHeapBytes X.admits]; show ¬ A * 4 > 536870912; omega) (by rw [Launch.admits_arrayLengthLimit X.admits]; omega) (by rw [Launch.admits_maxHeapBytes X.admits]; omega) hf (by show T.heap.size + 1 + A ≤ _; omega) (by show T.slotsUsed + A + A * B ≤ _; omega) (fun T2 d' acts' hI => ?_)
    obtain ⟨⟨lo, X2, hlo⟩, -⟩ := id hI
    simp only [wp_bind', Jvm.W.mark, Jvm.W.pushRef, State.topJava?_setTop' _ X2.here.top, Option.some.injEq, exists_eq_left', State.setTop_setTop]
    exact ⟨T2, hI, rfl⟩
  rw [wpRun_iff_run] at hrun
  cases hr : (Jvm.exec (.multianewarray index 2)).run e (T.setTop (F0 m pc ls (.int b :: .int a :: rest))) with
  | ctl x S acts => rw [hr] at hrun; cases x <;> exact hrun.elim
  | ok u S acts =>
    rw [hr] at hrun
    obtain ⟨T2, hI, hS⟩ := hrun
    obtain ⟨⟨lo, X2, hlo⟩, hvm, hsu, hsz, hold, ⟨sl, q1, q2, q3⟩, hin⟩ := hI
    have hT0 : (T.setVm vm1).heap = H := hT
    rw [hT0] at hlo hsz hold q1 q3 hin
    obtain ⟨t, st, hQt⟩ := kk T2.heap lo hlo hsz hold ⟨sl, q1, q2, fun j hj => by rw [q3 j hj, if_pos hj]⟩ hin T2 rfl (by rw [show cells + 1 + A = cells + 1 + A from rfl]; exact X2)
    refine ⟨t, ?_, hQt⟩
    refine Steps.instr (c := c) X.here ?_
    rw [show (F0 m pc ls (.int b :: .int a :: rest)).pc = pc from rfl, hdg]
    show wpRun (p.tables.exec _) _ _ _ _
    rw [hexec, wpRun_iff_run, hr]
    intro acts
    rw [hS, afterInstr_ok]
    have hH : T.heap.size = H.size := by rw [← hT0]; rfl
    rw [hH]
    exact st
end MULT
