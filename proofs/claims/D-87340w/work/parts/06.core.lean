set_option maxRecDepth 10000
/-! THE LAYER: names for cells (roles) instead of addresses, whole numbers instead of Int32 and Int64; a heap is a function from roles to contents; a judgement tvW without the machine in it -/
abbrev Rl : Type := Nat × Int × Int
abbrev XV : Type := Int ⊕ Option Rl ⊕ Int
abbrev XE : Type := (Nat × List XV) ⊕ (Nat × Nat × (Int → Int)) ⊕ (Nat × Nat × (Int → Option Rl))
abbrev GH : Type := Rl → Option XE
abbrev xI (z : Int) : XV := .inl z
abbrev xO (r : Option Rl) : XV := .inr (.inl r)
abbrev xR (r : Rl) : XV := .inr (.inl (some r))
abbrev xN : XV := .inr (.inl none)
abbrev xL (z : Int) : XV := .inr (.inr z)
abbrev xob (ci : Nat) (fs : List XV) : XE := .inl (ci, fs)
abbrev xar (t n : Nat) (f : Int → Int) : XE := .inr (.inl (t, n, f))
abbrev xra (t n : Nat) (f : Int → Option Rl) : XE := .inr (.inr (t, n, f))
/-- the value of a role or a number, by the addresses of the roles -/
def tv_e (ad : Rl → Nat) : XV → Value
  | .inl z => .int (Int32.ofInt z)
  | .inr (.inl none) => .null
  | .inr (.inl (some r)) => .ref (ad r)
  | .inr (.inr z) => .long (Int64.ofInt z)
def tv_c (aC : Nat → ClassId) (ad : Rl → Nat) : XE → va_E
  | .inl (ci, fs) => .inr (ci, fs.map (tv_e ad))
  | .inr (.inl (t, n, f)) => .inl (aC t, n, if t = 4 then .inr (.inl fun j => Int64.ofInt (f j)) else .inl fun j => Int32.ofInt (f j))
  | .inr (.inr (t, n, f)) => .inl (aC t, n, .inr (.inr (.inr (.inr fun j => (f j).map ad))))
abbrev rg (z : Int) : Prop := -2147483648 ≤ z ∧ z ≤ 2147483647
abbrev rgL (z : Int) : Prop := -9223372036854775808 ≤ z ∧ z ≤ 9223372036854775807
def tv_rt (t : Nat) (z : Int) : Prop := match t with
  | 0 => rg z
  | 1 => -128 ≤ z ∧ z ≤ 127
  | 2 => -32768 ≤ z ∧ z ≤ 32767
  | 3 => z = 0 ∨ z = 1
  | _ => rgL z
def tv_okr (G : GH) (r : Rl) : Prop := G r ≠ none ∨ r.1 = 99
def tv_ok (G : GH) : XV → Prop
  | .inl z => rg z
  | .inr (.inl none) => True
  | .inr (.inl (some r)) => tv_okr G r
  | .inr (.inr z) => rgL z
def tv_okE (G : GH) : XE → Prop
  | .inl (_, fs) => ∀ v ∈ fs, tv_ok G v
  | .inr (.inl (t, n, f)) => (t < 5 ∧ n ≤ 2147483647) ∧ ∀ i : Int, tv_rt t (f i)
  | .inr (.inr (t, n, f)) => (5 ≤ t ∧ t < 13 ∧ n ≤ 2147483647) ∧ ∀ (i : Int) (r : Rl), f i = some r → tv_okr G r
def tv_oks (G : GH) (st : List XV) : Prop := ∀ v ∈ st, tv_ok G v
def tv_okL (G : GH) (L : List (Option XV)) : Prop := ∀ v, some v ∈ L → tv_ok G v
/-- the classes, by number -/
abbrev vwCl : List vw_C := [(RX0, TX0, 15), (RX1, TX1, 55), (RX2, TX2, 5), (RX4, TX4, 1), (RX5, TX5, 2), (RX6, TX6, 4), (RX7, TX7, 3), (RX8, TX8, 3), (RX10, TX10, 20), (RJ2, TJ2, 3), (RJ11, TJ11, 6), (RX9, TX9, 6)]
def tv_aty (t : Nat) : FieldType := match t with
  | 0 => .int
  | 1 => .byte
  | 2 => .short
  | 3 => .boolean
  | 4 => .long
  | 5 => .object "java/lang/Object"
  | 6 => .object "TileOffice$Change"
  | 7 => .object "TileOffice$Block"
  | 8 => .array .byte
  | 9 => .array .short
  | 10 => .array .int
  | 11 => .array .boolean
  | _ => .array .long
abbrev tv_tys (aC : Nat → ClassId) : List (ClassId × FieldType) := (List.range 13).map fun t => (aC t, tv_aty t)
/-- the start of it all: its state, the classes' numbers and slots, the array classes, the addresses of old objects that are named -/
abbrev tv_O : Type := State × va_G × (Nat → ClassId) × (Nat → Nat)
abbrev tv_A (O : tv_O) : Nat → Prop := fun q => O.1.heap.size ≤ q
/-- an old array of references without places -/
def tv_ea (s : State) (a : Nat) : Prop := ∃ cell : Cell, s.heap[a]? = some cell ∧ s.isArrayOf cell (.object "java/lang/Object") ∧ cell.vm ≠ .unknown ∧ cell.vm.isStatics = false ∧ cell.slots.size = 0 ∧ s.vm.findClass "[Ljava/lang/Object;" = some cell.cls
def tv_xp (O : tv_O) (n : Nat) (a : Nat) : Prop := match n with
  | 0 => va_Z "java/util/ArrayList" "DEFAULTCAPACITY_EMPTY_ELEMENTDATA" "[Ljava/lang/Object;" (.ref a) (tv_A O) O.1 O.1.heap ∧ tv_ea O.1 a
  | 1 => va_Z "java/util/ArrayList" "EMPTY_ELEMENTDATA" "[Ljava/lang/Object;" (.ref a) (tv_A O) O.1 O.1.heap ∧ tv_ea O.1 a
  | 2 => va_Mi "java/util/ArrayList" a O.1
  | 3 => va_Mi "[Ljava/lang/Object;" a O.1
  | 4 => vk_R "java/lang/Math" 116 "long overflow" a O.1
  | _ => True
def tv_Of (O : tv_O) : Prop := (∃ b : Nat, (∀ w ∈ lw_tbl, w.before #[Value.ref b] O.1 = true) ∧ (Jvm.Cond.and given_1 narrow_1).before #[Value.ref b] O.1 = true) ∧ va_K O.2.1 vwCl (tv_tys O.2.2.1) O.1 ∧ (∀ n, tv_xp O n (O.2.2.2 n)) ∧ O.2.2.2 0 ≠ O.2.2.2 1 ∧ O.2.2.2 2 ≠ O.2.2.2 3
def tv_w (aC : Nat → ClassId) (ad : Rl → Nat) (dom : List Rl) (G : GH) : va_W := dom.map fun r => (ad r, tv_c aC ad ((G r).getD (.inl (0, []))))
/-- the heap H holds G at the addresses ad; what was there at the start stands as it was -/
def tv_R (O : tv_O) (ad : Rl → Nat) (dom : List Rl) (G : GH) (H : Heap) : Prop :=
  va_P O.2.1 vwCl (tv_w O.2.2.1 ad dom G) H ∧ va_D (tv_A O) (tv_w O.2.2.1 ad dom G) ∧ (∀ r, r ∈ dom ↔ G r ≠ none) ∧ (∀ r e, G r = some e → tv_okE G e) ∧ (∀ r, r ∈ dom → r.1 ≠ 99) ∧ (∀ n b, ad (99, n, b) = O.2.2.2 n.toNat) ∧ O.1.heap.size ≤ H.size ∧ ∀ q, q < O.1.heap.size → H[q]? = O.1.heap[q]?
/-- a method: its bytes, locals, class, answer, whether it is a constructor -/
abbrev tv_M : Type := ByteArray × Nat × String × Option FieldType × Bool
def tv_ri (ret : Option FieldType) (v : Option XV) (ins : Instr) : Prop := match ret, v with
  | none, none => ins = .return_
  | some .int, some (.inl _) => ins = .ireturn
  | some .boolean, some (.inl z) => ins = .ireturn ∧ (z = 0 ∨ z = 1)
  | some .long, some (.inr (.inr _)) => ins = .lreturn
  | some (.object _), some (.inr (.inl _)) => ins = .areturn
  | some (.array _), some (.inr (.inl _)) => ins = .areturn
  | _, _ => False
def tv_ext (ad0 : Rl → Nat) (G0 : GH) (ad : Rl → Nat) (G : GH) : Prop := ∀ r, tv_okr G0 r → ad r = ad0 r ∧ tv_okr G r
def tv_okO (G : GH) (v : Option XV) : Prop := ∀ x, v = some x → tv_ok G x
/-- what holds all through a method's body -/
def tv_E (M : tv_M) (d : Nat) (K : Option XV → GH → Prop) (O : tv_O) (ad0 : Rl → Nat) (G0 : GH) (p : Program) (l : Launch) (e : Env) (R : Room) (s : State) (m : MethodId) (args : Array Value) (below : List Frame) (meth : Method) (c : Code) (Q : State → Prop) : Prop :=
  p.tables.exec = Jvm.exec ∧ c.code = M.1 ∧ c.maxLocals = M.2.1 ∧ s.vm.findClass M.2.2.1 = some m.cls ∧ (∀ w ∈ lw_all, w.before args s = true) ∧ (M.2.2.2.2 = true → meth.name = "<init>") ∧ O.1.WarmedH s.vm ∧ tv_Of O ∧ (d ≤ R.frames ∧ 100 * d ≤ R.locals) ∧ (O.1.heap.size ≤ s.heap.size ∧ ∀ q, q < O.1.heap.size → s.heap[q]? = O.1.heap[q]?) ∧
  ∀ (v : Option XV) (ad : Rl → Nat) (dom : List Rl) (G : GH) (H : Heap) (locs : List Loc) (cells slots pc : Nat) (ls : Array Slot) (ins : Instr), K v G → tv_R O ad dom G H → tv_okO G v → va_S (tv_A O) s.heap H locs → tv_ext ad0 G0 ad G → cells ≤ R.cells → slots ≤ R.slots → decode M.1 pc = .ok (ins, 1) → tv_ri M.2.2.2.1 v ins →
    W p l e R s m args below meth c H locs cells slots Q (F0 m pc ls (v.toList.map (tv_e ad)))
def tv_pr (ad : Rl → Nat) : Nat → List (Option XV) → List (Nat × Value)
  | _, [] => []
  | i, none :: L => tv_pr ad (i + 1) L
  | i, some v :: L => (i, tv_e ad v) :: tv_pr ad (i + 1) L
/-- what holds at a point of a body -/
def tv_S (M : tv_M) (L : List (Option XV)) (st : List XV) (G : GH) (bc bs : Nat) (O : tv_O) (ad0 : Rl → Nat) (G0 : GH) (R : Room) (s : State) (ad : Rl → Nat) (dom : List Rl) (H : Heap) (locs : List Loc) (cells slots : Nat) (ls : Array Slot) : Prop :=
  tv_R O ad dom G H ∧ tv_oks G st ∧ tv_okL G L ∧ lv_has ls M.2.1 (tv_pr ad 0 L) ∧ L.length ≤ M.2.1 ∧ va_S (tv_A O) s.heap H locs ∧ tv_ext ad0 G0 ad G ∧ cells + bc ≤ R.cells ∧ slots + bs ≤ R.slots
def tvW (M : tv_M) (d : Nat) (K : Option XV → GH → Prop) (pc : Nat) (L : List (Option XV)) (st : List XV) (G : GH) (bc bs : Nat) : Prop :=
  ∀ (O : tv_O) (ad0 : Rl → Nat) (G0 : GH) (p : Program) (l : Launch) (e : Env) (R : Room) (s : State) (m : MethodId) (args : Array Value) (below : List Frame) (meth : Method) (c : Code) (Q : State → Prop), tv_E M d K O ad0 G0 p l e R s m args below meth c Q →
  ∀ (ad : Rl → Nat) (dom : List Rl) (H : Heap) (locs : List Loc) (cells slots : Nat) (ls : Array Slot), tv_S M L st G bc bs O ad0 G0 R s ad dom H locs cells slots ls →
    W p l e R s m args below meth c H locs cells slots Q (F0 m pc ls (st.map (tv_e ad)))
/-! numbers -/
def bAnd (a b : Int) : Int := (Int32.ofInt a &&& Int32.ofInt b).toInt
def bOr (a b : Int) : Int := (Int32.ofInt a ||| Int32.ofInt b).toInt
def bXor (a b : Int) : Int := (Int32.ofInt a ^^^ Int32.ofInt b).toInt
def bShl (a b : Int) : Int := (Int32.ofInt a <<< (Int32.ofInt b &&& 31)).toInt
def bShr (a b : Int) : Int := (Int32.ofInt a >>> (Int32.ofInt b &&& 31)).toInt
def iB (a : Int) : Int := (Int32.ofInt a).toInt8.toInt
def iS (a : Int) : Int := (Int32.ofInt a).toInt16.toInt
def lAdd (a b : Int) : Int := (Int64.ofInt a + Int64.ofInt b).toInt
def lSub (a b : Int) : Int := (Int64.ofInt a - Int64.ofInt b).toInt
def lMul (a b : Int) : Int := (Int64.ofInt a * Int64.ofInt b).toInt
def lDiv (a b : Int) : Int := (Int64.ofInt a / Int64.ofInt b).toInt
def lNeg (a : Int) : Int := (-(Int64.ofInt a)).toInt
def lAnd (a b : Int) : Int := (Int64.ofInt a &&& Int64.ofInt b).toInt
def lOr (a b : Int) : Int := (Int64.ofInt a ||| Int64.ofInt b).toInt
def lXor (a b : Int) : Int := (Int64.ofInt a ^^^ Int64.ofInt b).toInt
def lShl (a b : Int) : Int := (Int64.ofInt a <<< ((Int32.ofInt b).toInt64 &&& 63)).toInt
def lShr (a b : Int) : Int := (Int64.ofInt a >>> ((Int32.ofInt b).toInt64 &&& 63)).toInt
def lUshr (a b : Int) : Int := ((Int64.ofInt a).toUInt64 >>> ((Int32.ofInt b).toInt64.toUInt64 &&& Int64.toUInt64 63)).toInt64.toInt
def lI (a : Int) : Int := (Int64.ofInt a).toInt32.toInt
def lCmp (a b : Int) : Int := if b < a then 1 else if a = b then 0 else -1
theorem e_toInt {z : Int} (h : rg z) : (Int32.ofInt z).toInt = z := Int32.toInt_ofInt_of_le (by omega) (by omega)
theorem e_toIntL {z : Int} (h : rgL z) : (Int64.ofInt z).toInt = z := Int64.toInt_ofInt_of_le (by omega) (by omega)
theorem e_rg (x : Int32) : rg x.toInt := by
  have h1 := x.toInt_lt
  have h2 := x.le_toInt
  constructor <;> omega
theorem e_rgL (x : Int64) : rgL x.toInt := by
  have h1 := x.toInt_lt
  have h2 := x.le_toInt
  constructor <;> omega
theorem e_lt {a b : Int} (ha : rg a) (hb : rg b) : Int32.ofInt a < Int32.ofInt b ↔ a < b := by rw [Int32.lt_iff_toInt_lt, e_toInt ha, e_toInt hb]
theorem e_le {a b : Int} (ha : rg a) (hb : rg b) : Int32.ofInt a ≤ Int32.ofInt b ↔ a ≤ b := by rw [Int32.le_iff_toInt_le, e_toInt ha, e_toInt hb]
theorem e_eq {a b : Int} (ha : rg a) (hb : rg b) : Int32.ofInt a = Int32.ofInt b ↔ a = b := by
  constructor
  · intro h
    have := congrArg Int32.toInt h
    rwa [e_toInt ha, e_toInt hb] at this
  · intro h; rw [h]
theorem e_0 : (0 : Int32) = Int32.ofInt 0 := rfl
theorem e_ltL {a b : Int} (ha : rgL a) (hb : rgL b) : Int64.ofInt a < Int64.ofInt b ↔ a < b := by rw [Int64.lt_iff_toInt_lt, e_toIntL ha, e_toIntL hb]
theorem e_eqL {a b : Int} (ha : rgL a) (hb : rgL b) : Int64.ofInt a = Int64.ofInt b ↔ a = b := by
  constructor
  · intro h
    have := congrArg Int64.toInt h
    rwa [e_toIntL ha, e_toIntL hb] at this
  · intro h; rw [h]
theorem e_cmp {a b : Int} (ha : rgL a) (hb : rgL b) : lg_cmp (Int64.ofInt a) (Int64.ofInt b) = Int32.ofInt (lCmp a b) := by
  unfold lg_cmp lCmp
  have h1 : (Int64.ofInt a > Int64.ofInt b) ↔ b < a := e_ltL hb ha
  by_cases h : b < a
  · rw [if_pos (h1.mpr h), if_pos h]; rfl
  · rw [if_neg (fun q => h (h1.mp q)), if_neg h]
    by_cases h2 : a = b
    · rw [if_pos ((e_eqL ha hb).mpr h2), if_pos h2]; rfl
    · rw [if_neg (fun q => h2 ((e_eqL ha hb).mp q)), if_neg h2]; rfl
theorem e_in {z : Int} {n : Nat} (h0 : 0 ≤ z) (h1 : z < n) (hn : n ≤ 2147483647) : vp_in (Int32.ofInt z) n ∧ (Int32.ofInt z).toNatClampNeg = z.toNat := by
  have hr : rg z := ⟨by omega, by omega⟩
  have h2 : (Int32.ofInt z).toNatClampNeg = z.toNat := by
    show (Int32.ofInt z).toInt.toNat = _
    rw [e_toInt hr]
  refine ⟨vp_in_iff.mpr ?_, h2⟩
  rw [e_toInt hr]
  exact ⟨h0, h1⟩
