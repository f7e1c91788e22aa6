set_option maxRecDepth 10000
/-! floors -/
def ffr (f : Int) (G G' : GH) : Prop := ∀ q : Rl, ¬ ((24 ≤ q.1 ∧ q.1 < 27) ∧ q.2.1 = f) → ¬ (q.1 = 27 ∧ 8 * f ≤ q.2.1 ∧ q.2.1 < 8 * f + 8) → G' q = G q
theorem ffr_t {f : Int} {G G1 G2 : GH} (h : ffr f G G1) (h' : ffr f G1 G2) : ffr f G G2 := fun q q1 q2 => (h' q q1 q2).trans (h q q1 q2)
theorem ffr_s {f z : Int} {t : Nat} {G G' : GH} (ht : 24 ≤ t ∧ t < 27) (h : ∀ r, r ≠ ((t, f, z) : Rl) → G' r = G r) : ffr f G G' := fun q q1 _ => h q (fun e => q1 (by rw [e]; exact ⟨ht, rfl⟩))
theorem ffr_7 {f n z : Int} {G G' : GH} (hn : 0 ≤ n ∧ n < 8) (h : ∀ r, r ≠ ((27, 8 * f + n, z) : Rl) → G' r = G r) : ffr f G G' := fun q _ q2 => h q (fun e => q2 (by rw [e]; exact ⟨rfl, by simp only []; omega, by simp only []; omega⟩))
def fb0 (G : GH) (f n : Int) (t ty H W : Nat) : Prop := G (26, f, n) = some (xra t H (mrow 27 (8 * f + n) H)) ∧ ∀ i : Int, 0 ≤ i → i < H → G (27, 8 * f + n, i) = some (xar ty W (fun _ => 0))
theorem fb0_fr {G G' : GH} {f n : Int} {t ty H W : Nat} (h6 : G' (26, f, n) = G (26, f, n)) (h7 : ∀ i, G' (27, 8 * f + n, i) = G (27, 8 * f + n, i)) (h : fb0 G f n t ty H W) : fb0 G' f n t ty H W := ⟨h6.trans h.1, fun i i0 i1 => (h7 i).trans (h.2 i i0 i1)⟩
theorem fb0_b {G : GH} {f n : Int} {t ty H W : Nat} (h : fb0 G f n t ty H W) : fbd G f n t ty H W (fun _ _ => 0) := ⟨h.1, fun i i0 i1 => ⟨_, h.2 i i0 i1, fun _ _ _ => rfl⟩⟩
section
variable {d : Nat} {K : Option XV → GH → Prop} {G0 G : GH} {bc bs : Nat} {σ : MS} {w : RW}
theorem c_X10_init {f : Int} {H W : Nat} (hH : 1 ≤ H ∧ H ≤ 8) (hW : 1 ≤ W ∧ W ≤ 8) (hO : G (fO f) = some (xob 8 [xI 0, xI 0, xN, xN, xN, xN, xN, xN, xN, xI 0, xI 0, xI 0, xI 0, xI 0, xI 0, xI 0, xI 0, xI 0, xI 0, xN])) (h25 : ∀ j, G (25, f, j) = none) (h26 : ∀ j, G (26, f, j) = none) (h27 : ∀ n j, 0 ≤ n → n < 8 → G (27, 8 * f + n, j) = none)
    (h : ∀ G', ffr f G G' → flo G' f H W [0, 0, 0, 0, 0, 0, 0, 0, 0, 0] (fun _ _ => 0) (fun _ _ => -1) (fun _ => 0) (fun _ => 0) (fun _ _ => 0) (fun _ _ => 0) (fun _ _ => 0) → K none G') : tvW mX10_init (d + 1) K 0 [some (xR (fO f)), some (xR oR), some (xI H), some (xI W), none, none, none, none, none] [] G 47 440 := by
  have hHW : H * W ≤ 64 := Nat.mul_le_mul hH.2 hW.2
  generalize hP : H * W = P at hHW
  refine w_less (bc' := 0 + (1 + H) + (1 + H) + (1 + H) + (1 + H) + (1 + H) + 1 + 1) (bs' := 0 + (H + H * W) + (H + H * W) + (H + H * W) + (H + H * W) + (H + H * W) + 40 + 40) (by omega) (by rw [hP]; omega) ?_
  refine w_aload_n (pc' := 1) dX10_init_0 rfl rfl ?_
  refine w_aload_n (pc' := 2) dX10_init_1 rfl rfl ?_
  refine w_put 19 (pc' := 5) dX10_init_2 rfl pX10_3_8 (by decide) hO (Nat.le_of_ble_eq_true rfl) trivial ?_
  -- at 5: .aload_n 0
  refine w_upd (fun G1 a1 f1 => ?_)
  refine w_aload_n (pc' := 6) dX10_init_5 rfl rfl ?_
  -- at 6: .invokespecial 9
  refine w_objI (pc' := 9) dX10_init_6 rfl q870 q110 q111 (Nat.le_of_ble_eq_true rfl) ?_
  have e0 : G1 (25, f, 0) = none := (f1 _ (rl_ne (by omega))).trans (h25 0)
  refine w_aload_n (pc' := 10) dX10_init_9 rfl rfl ?_
  refine w_bipush (pc' := 12) dX10_init_10 rfl (by decide +kernel) (by decide) ?_
  refine w_newi (25, f, 0) 40 (pc' := 14) dX10_init_12 rfl rfl (by omega) (by assumption) (by first | assumption | simp) ?_
  -- at 14: .putfield 15
  refine w_upd (fun G2 a2 f2 => ?_)
  have a1 := (f2 _ (rl_ne (by omega))).trans a1
  refine w_put 3 (pc' := 17) dX10_init_14 rfl pX10_15_8 (by decide) a1 (Nat.le_of_ble_eq_true rfl) trivial ?_
  -- at 17: .aload_n 0
  refine w_upd (fun G3 a3 f3 => ?_)
  have a2 := (f3 _ (rl_ne (by omega))).trans a2
  have e1 : G3 (25, f, 1) = none := by rw [f3 _ (rl_ne (by omega)), f2 _ (rl_ne (by omega)), f1 _ (rl_ne (by omega))]; exact h25 1
  refine w_aload_n (pc' := 18) dX10_init_17 rfl rfl ?_
  refine w_bipush (pc' := 20) dX10_init_18 rfl (by decide +kernel) (by decide) ?_
  refine w_newi (25, f, 1) 40 (pc' := 22) dX10_init_20 rfl rfl (by omega) (by assumption) (by first | assumption | simp) ?_
  -- at 22: .putfield 19
  refine w_upd (fun G4 a4 f4 => ?_)
  have a3 := (f4 _ (rl_ne (by omega))).trans a3
  have a2 := (f4 _ (rl_ne (by omega))).trans a2
  refine w_put 4 (pc' := 25) dX10_init_22 rfl pX10_19_8 (by decide) a3 (Nat.le_of_ble_eq_true rfl) trivial ?_
  -- at 25: .aload_n 0
  refine w_upd (fun G5 a5 f5 => ?_)
  have a2 := (f5 _ (rl_ne (by omega))).trans a2
  have a4 := (f5 _ (rl_ne (by omega))).trans a4
  refine w_aload_n (pc' := 26) dX10_init_25 rfl rfl ?_
  refine w_iload_n (pc' := 27) dX10_init_26 rfl rfl ?_
  refine w_put 0 (pc' := 30) dX10_init_27 rfl pX10_22_8 (by decide) a5 (Nat.le_of_ble_eq_true rfl) trivial ?_
  -- at 30: .aload_n 0
  refine w_upd (fun G6 a6 f6 => ?_)
  have a2 := (f6 _ (rl_ne (by omega))).trans a2
  have a4 := (f6 _ (rl_ne (by omega))).trans a4
  refine w_aload_n (pc' := 31) dX10_init_30 rfl rfl ?_
  refine w_iload_n (pc' := 32) dX10_init_31 rfl rfl ?_
  refine w_put 1 (pc' := 35) dX10_init_32 rfl pX10_26_8 (by decide) a6 (Nat.le_of_ble_eq_true rfl) trivial ?_
  -- at 35: .aload_n 0
  refine w_upd (fun G7 a7 f7 => ?_)
  have a2 := (f7 _ (rl_ne (by omega))).trans a2
  have a4 := (f7 _ (rl_ne (by omega))).trans a4
  have fr7 : ffr f G G7 := ffr_t (ffr_s (by omega) f1) (ffr_t (ffr_s (by omega) f2) (ffr_t (ffr_s (by omega) f3) (ffr_t (ffr_s (by omega) f4) (ffr_t (ffr_s (by omega) f5) (ffr_t (ffr_s (by omega) f6) (ffr_s (by omega) f7))))))
  have k26 : ∀ j, G7 (26, f, j) = none := fun j => by rw [f7 _ (rl_ne (by omega)), f6 _ (rl_ne (by omega)), f5 _ (rl_ne (by omega)), f4 _ (rl_ne (by omega)), f3 _ (rl_ne (by omega)), f2 _ (rl_ne (by omega)), f1 _ (rl_ne (by omega))]; exact h26 j
  have k27 : ∀ n j, 0 ≤ n → n < 8 → G7 (27, 8 * f + n, j) = none := fun n j n0 n1 => by rw [f7 _ (rl_ne (by omega)), f6 _ (rl_ne (by omega)), f5 _ (rl_ne (by omega)), f4 _ (rl_ne (by omega)), f3 _ (rl_ne (by omega)), f2 _ (rl_ne (by omega)), f1 _ (rl_ne (by omega))]; exact h27 n j n0 n1
  refine w_aload_n (pc' := 36) dX10_init_35 rfl rfl ?_
  refine w_iload_n (pc' := 37) dX10_init_36 rfl rfl ?_
  refine w_iload_n (pc' := 38) dX10_init_37 rfl rfl ?_
  -- at 38: .multianewarray 29 2
  refine w_multi (t := 10) (ti := 0) (26, f, 0) 27 (8 * f + 0) H W (pc' := 42) dX10_init_38 rfl (by omega) rfl (by omega) q871 rfl q872 rfl rfl (by omega) (by omega) (k26 0) (by simp) (by simp) (by simp) (fun i => k27 0 i (by omega) (by omega)) ?_
  refine w_updM (by simp) (fun G8 a8 b8 f8 => ?_)
  have a7 := (f8 _ (rl_ne (by omega)) (by simp only []; omega)).trans a7
  have a2 := (f8 _ (rl_ne (by omega)) (by simp only []; omega)).trans a2
  have a4 := (f8 _ (rl_ne (by omega)) (by simp only []; omega)).trans a4
  have c0 : fb0 G8 f 0 10 0 H W := ⟨a8, b8⟩
  have k26 : ∀ j, 0 < j → G8 (26, f, j) = none := fun j hj => (f8 _ (rl_ne (by omega)) (by simp only []; omega)).trans (k26 j)
  have k27 : ∀ n j, 0 ≤ n → n < 8 → 0 < n → G8 (27, 8 * f + n, j) = none := fun n j n0 n1 n2 => (f8 _ (rl_ne (by omega)) (by simp only []; omega)).trans (k27 n j n0 n1)
  have fr8 : ffr f G G8 := fun q q1 q2 => (f8 q (fun z => q1 (by rw [z]; exact ⟨by simp only []; omega, rfl⟩)) (fun z => q2 (by omega))).trans (fr7 q q1 q2)
  refine w_put 2 (pc' := 45) dX10_init_42 rfl pX10_31_8 (by decide) a7 (Nat.le_of_ble_eq_true rfl) trivial ?_
  -- at 45: .aload_n 0
  refine w_upd (fun G9 a9 f9 => ?_)
  have a2 := (f9 _ (rl_ne (by omega))).trans a2
  have a4 := (f9 _ (rl_ne (by omega))).trans a4
  have c0 := fb0_fr (f9 _ (rl_ne (by omega))) (fun i => f9 _ (rl_ne (by omega))) c0
  have k26 : ∀ j, 0 < j → G9 (26, f, j) = none := fun j hj => (f9 _ (rl_ne (by omega))).trans (k26 j hj)
  have k27 : ∀ n j, 0 ≤ n → n < 8 → 0 < n → G9 (27, 8 * f + n, j) = none := fun n j n0 n1 n2 => (f9 _ (rl_ne (by omega))).trans (k27 n j n0 n1 n2)
  have fr9 : ffr f G G9 := ffr_t fr8 (ffr_s (by omega) f9)
  refine w_aload_n (pc' := 46) dX10_init_45 rfl rfl ?_
  refine w_iload_n (pc' := 47) dX10_init_46 rfl rfl ?_
  refine w_iload_n (pc' := 48) dX10_init_47 rfl rfl ?_
  -- at 48: .multianewarray 29 2
  refine w_multi (t := 10) (ti := 0) (26, f, 1) 27 (8 * f + 1) H W (pc' := 52) dX10_init_48 rfl (by omega) rfl (by omega) q871 rfl q872 rfl rfl (by omega) (by omega) (k26 1 (by omega)) (by simp) (by simp) (by simp) (fun i => k27 1 i (by omega) (by omega) (by omega)) ?_
  refine w_updM (by simp) (fun G10 a10 b10 f10 => ?_)
  have a9 := (f10 _ (rl_ne (by omega)) (by simp only []; omega)).trans a9
  have a2 := (f10 _ (rl_ne (by omega)) (by simp only []; omega)).trans a2
  have a4 := (f10 _ (rl_ne (by omega)) (by simp only []; omega)).trans a4
  have c0 := fb0_fr (f10 _ (rl_ne (by omega)) (by simp only []; omega)) (fun i => f10 _ (rl_ne (by omega)) (by simp only []; omega)) c0
  have c1 : fb0 G10 f 1 10 0 H W := ⟨a10, b10⟩
  have k26 : ∀ j, 1 < j → G10 (26, f, j) = none := fun j hj => (f10 _ (rl_ne (by omega)) (by simp only []; omega)).trans (k26 j (by omega))
  have k27 : ∀ n j, 0 ≤ n → n < 8 → 1 < n → G10 (27, 8 * f + n, j) = none := fun n j n0 n1 n2 => (f10 _ (rl_ne (by omega)) (by simp only []; omega)).trans (k27 n j n0 n1 (by omega))
  have fr10 : ffr f G G10 := fun q q1 q2 => (f10 q (fun z => q1 (by rw [z]; exact ⟨by simp only []; omega, rfl⟩)) (fun z => q2 (by omega))).trans (fr9 q q1 q2)
  refine w_put 5 (pc' := 55) dX10_init_52 rfl pX10_34_8 (by decide) a9 (Nat.le_of_ble_eq_true rfl) trivial ?_
  -- at 55: .aload_n 0
  refine w_upd (fun G11 a11 f11 => ?_)
  have a2 := (f11 _ (rl_ne (by omega))).trans a2
  have a4 := (f11 _ (rl_ne (by omega))).trans a4
  have c0 := fb0_fr (f11 _ (rl_ne (by omega))) (fun i => f11 _ (rl_ne (by omega))) c0
  have c1 := fb0_fr (f11 _ (rl_ne (by omega))) (fun i => f11 _ (rl_ne (by omega))) c1
  have k26 : ∀ j, 1 < j → G11 (26, f, j) = none := fun j hj => (f11 _ (rl_ne (by omega))).trans (k26 j hj)
  have k27 : ∀ n j, 0 ≤ n → n < 8 → 1 < n → G11 (27, 8 * f + n, j) = none := fun n j n0 n1 n2 => (f11 _ (rl_ne (by omega))).trans (k27 n j n0 n1 n2)
  have fr11 : ffr f G G11 := ffr_t fr10 (ffr_s (by omega) f11)
  refine w_aload_n (pc' := 56) dX10_init_55 rfl rfl ?_
  refine w_iload_n (pc' := 57) dX10_init_56 rfl rfl ?_
  refine w_iload_n (pc' := 58) dX10_init_57 rfl rfl ?_
  -- at 58: .multianewarray 29 2
  refine w_multi (t := 10) (ti := 0) (26, f, 2) 27 (8 * f + 2) H W (pc' := 62) dX10_init_58 rfl (by omega) rfl (by omega) q871 rfl q872 rfl rfl (by omega) (by omega) (k26 2 (by omega)) (by simp) (by simp) (by simp) (fun i => k27 2 i (by omega) (by omega) (by omega)) ?_
  refine w_updM (by simp) (fun G12 a12 b12 f12 => ?_)
  have a11 := (f12 _ (rl_ne (by omega)) (by simp only []; omega)).trans a11
  have a2 := (f12 _ (rl_ne (by omega)) (by simp only []; omega)).trans a2
  have a4 := (f12 _ (rl_ne (by omega)) (by simp only []; omega)).trans a4
  have c0 := fb0_fr (f12 _ (rl_ne (by omega)) (by simp only []; omega)) (fun i => f12 _ (rl_ne (by omega)) (by simp only []; omega)) c0
  have c1 := fb0_fr (f12 _ (rl_ne (by omega)) (by simp only []; omega)) (fun i => f12 _ (rl_ne (by omega)) (by simp only []; omega)) c1
  have c2 : fb0 G12 f 2 10 0 H W := ⟨a12, b12⟩
  have k26 : ∀ j, 2 < j → G12 (26, f, j) = none := fun j hj => (f12 _ (rl_ne (by omega)) (by simp only []; omega)).trans (k26 j (by omega))
  have k27 : ∀ n j, 0 ≤ n → n < 8 → 2 < n → G12 (27, 8 * f + n, j) = none := fun n j n0 n1 n2 => (f12 _ (rl_ne (by omega)) (by simp only []; omega)).trans (k27 n j n0 n1 (by omega))
  have fr12 : ffr f G G12 := fun q q1 q2 => (f12 q (fun z => q1 (by rw [z]; exact ⟨by simp only []; omega, rfl⟩)) (fun z => q2 (by omega))).trans (fr11 q q1 q2)
  refine w_put 6 (pc' := 65) dX10_init_62 rfl pX10_37_8 (by decide) a11 (Nat.le_of_ble_eq_true rfl) trivial ?_
  -- at 65: .aload_n 0
  refine w_upd (fun G13 a13 f13 => ?_)
  have a2 := (f13 _ (rl_ne (by omega))).trans a2
  have a4 := (f13 _ (rl_ne (by omega))).trans a4
  have c0 := fb0_fr (f13 _ (rl_ne (by omega))) (fun i => f13 _ (rl_ne (by omega))) c0
  have c1 := fb0_fr (f13 _ (rl_ne (by omega))) (fun i => f13 _ (rl_ne (by omega))) c1
  have c2 := fb0_fr (f13 _ (rl_ne (by omega))) (fun i => f13 _ (rl_ne (by omega))) c2
  have k26 : ∀ j, 2 < j → G13 (26, f, j) = none := fun j hj => (f13 _ (rl_ne (by omega))).trans (k26 j hj)
  have k27 : ∀ n j, 0 ≤ n → n < 8 → 2 < n → G13 (27, 8 * f + n, j) = none := fun n j n0 n1 n2 => (f13 _ (rl_ne (by omega))).trans (k27 n j n0 n1 n2)
  have fr13 : ffr f G G13 := ffr_t fr12 (ffr_s (by omega) f13)
  refine w_aload_n (pc' := 66) dX10_init_65 rfl rfl ?_
  refine w_iload_n (pc' := 67) dX10_init_66 rfl rfl ?_
  refine w_iload_n (pc' := 68) dX10_init_67 rfl rfl ?_
  -- at 68: .multianewarray 29 2
  refine w_multi (t := 10) (ti := 0) (26, f, 3) 27 (8 * f + 3) H W (pc' := 72) dX10_init_68 rfl (by omega) rfl (by omega) q871 rfl q872 rfl rfl (by omega) (by omega) (k26 3 (by omega)) (by simp) (by simp) (by simp) (fun i => k27 3 i (by omega) (by omega) (by omega)) ?_
  refine w_updM (by simp) (fun G14 a14 b14 f14 => ?_)
  have a13 := (f14 _ (rl_ne (by omega)) (by simp only []; omega)).trans a13
  have a2 := (f14 _ (rl_ne (by omega)) (by simp only []; omega)).trans a2
  have a4 := (f14 _ (rl_ne (by omega)) (by simp only []; omega)).trans a4
  have c0 := fb0_fr (f14 _ (rl_ne (by omega)) (by simp only []; omega)) (fun i => f14 _ (rl_ne (by omega)) (by simp only []; omega)) c0
  have c1 := fb0_fr (f14 _ (rl_ne (by omega)) (by simp only []; omega)) (fun i => f14 _ (rl_ne (by omega)) (by simp only []; omega)) c1
  have c2 := fb0_fr (f14 _ (rl_ne (by omega)) (by simp only []; omega)) (fun i => f14 _ (rl_ne (by omega)) (by simp only []; omega)) c2
  have c3 : fb0 G14 f 3 10 0 H W := ⟨a14, b14⟩
  have k26 : ∀ j, 3 < j → G14 (26, f, j) = none := fun j hj => (f14 _ (rl_ne (by omega)) (by simp only []; omega)).trans (k26 j (by omega))
  have k27 : ∀ n j, 0 ≤ n → n < 8 → 3 < n → G14 (27, 8 * f + n, j) = none := fun n j n0 n1 n2 => (f14 _ (rl_ne (by omega)) (by simp only []; omega)).trans (k27 n j n0 n1 (by omega))
  have fr14 : ffr f G G14 := fun q q1 q2 => (f14 q (fun z => q1 (by rw [z]; exact ⟨by simp only []; omega, rfl⟩)) (fun z => q2 (by omega))).trans (fr13 q q1 q2)
  refine w_put 7 (pc' := 75) dX10_init_72 rfl pX10_40_8 (by decide) a13 (Nat.le_of_ble_eq_true rfl) trivial ?_
  -- at 75: .aload_n 0
  refine w_upd (fun G15 a15 f15 => ?_)
  have a2 := (f15 _ (rl_ne (by omega))).trans a2
  have a4 := (f15 _ (rl_ne (by omega))).trans a4
  have c0 := fb0_fr (f15 _ (rl_ne (by omega))) (fun i => f15 _ (rl_ne (by omega))) c0
  have c1 := fb0_fr (f15 _ (rl_ne (by omega))) (fun i => f15 _ (rl_ne (by omega))) c1
  have c2 := fb0_fr (f15 _ (rl_ne (by omega))) (fun i => f15 _ (rl_ne (by omega))) c2
  have c3 := fb0_fr (f15 _ (rl_ne (by omega))) (fun i => f15 _ (rl_ne (by omega))) c3
  have k26 : ∀ j, 3 < j → G15 (26, f, j) = none := fun j hj => (f15 _ (rl_ne (by omega))).trans (k26 j hj)
  have k27 : ∀ n j, 0 ≤ n → n < 8 → 3 < n → G15 (27, 8 * f + n, j) = none := fun n j n0 n1 n2 => (f15 _ (rl_ne (by omega))).trans (k27 n j n0 n1 n2)
  have fr15 : ffr f G G15 := ffr_t fr14 (ffr_s (by omega) f15)
  refine w_aload_n (pc' := 76) dX10_init_75 rfl rfl ?_
  refine w_iload_n (pc' := 77) dX10_init_76 rfl rfl ?_
  refine w_iload_n (pc' := 78) dX10_init_77 rfl rfl ?_
  -- at 78: .multianewarray 43 2
  refine w_multi (t := 11) (ti := 3) (26, f, 4) 27 (8 * f + 4) H W (pc' := 82) dX10_init_78 rfl (by omega) rfl (by omega) q873 rfl q141 rfl rfl (by omega) (by omega) (k26 4 (by omega)) (by simp) (by simp) (by simp) (fun i => k27 4 i (by omega) (by omega) (by omega)) ?_
  refine w_updM (by simp) (fun G16 a16 b16 f16 => ?_)
  have a15 := (f16 _ (rl_ne (by omega)) (by simp only []; omega)).trans a15
  have a2 := (f16 _ (rl_ne (by omega)) (by simp only []; omega)).trans a2
  have a4 := (f16 _ (rl_ne (by omega)) (by simp only []; omega)).trans a4
  have c0 := fb0_fr (f16 _ (rl_ne (by omega)) (by simp only []; omega)) (fun i => f16 _ (rl_ne (by omega)) (by simp only []; omega)) c0
  have c1 := fb0_fr (f16 _ (rl_ne (by omega)) (by simp only []; omega)) (fun i => f16 _ (rl_ne (by omega)) (by simp only []; omega)) c1
  have c2 := fb0_fr (f16 _ (rl_ne (by omega)) (by simp only []; omega)) (fun i => f16 _ (rl_ne (by omega)) (by simp only []; omega)) c2
  have c3 := fb0_fr (f16 _ (rl_ne (by omega)) (by simp only []; omega)) (fun i => f16 _ (rl_ne (by omega)) (by simp only []; omega)) c3
  have c4 : fb0 G16 f 4 11 3 H W := ⟨a16, b16⟩
  have k26 : ∀ j, 4 < j → G16 (26, f, j) = none := fun j hj => (f16 _ (rl_ne (by omega)) (by simp only []; omega)).trans (k26 j (by omega))
  have k27 : ∀ n j, 0 ≤ n → n < 8 → 4 < n → G16 (27, 8 * f + n, j) = none := fun n j n0 n1 n2 => (f16 _ (rl_ne (by omega)) (by simp only []; omega)).trans (k27 n j n0 n1 (by omega))
  have fr16 : ffr f G G16 := fun q q1 q2 => (f16 q (fun z => q1 (by rw [z]; exact ⟨by simp only []; omega, rfl⟩)) (fun z => q2 (by omega))).trans (fr15 q q1 q2)
  refine w_put 8 (pc' := 85) dX10_init_82 rfl pX10_45_8 (by decide) a15 (Nat.le_of_ble_eq_true rfl) trivial ?_
  -- at 85: .aload_n 0
  refine w_upd (fun G17 a17 f17 => ?_)
  have a2 := (f17 _ (rl_ne (by omega))).trans a2
  have a4 := (f17 _ (rl_ne (by omega))).trans a4
  have c0 := fb0_fr (f17 _ (rl_ne (by omega))) (fun i => f17 _ (rl_ne (by omega))) c0
  have c1 := fb0_fr (f17 _ (rl_ne (by omega))) (fun i => f17 _ (rl_ne (by omega))) c1
  have c2 := fb0_fr (f17 _ (rl_ne (by omega))) (fun i => f17 _ (rl_ne (by omega))) c2
  have c3 := fb0_fr (f17 _ (rl_ne (by omega))) (fun i => f17 _ (rl_ne (by omega))) c3
  have c4 := fb0_fr (f17 _ (rl_ne (by omega))) (fun i => f17 _ (rl_ne (by omega))) c4
  have k26 : ∀ j, 4 < j → G17 (26, f, j) = none := fun j hj => (f17 _ (rl_ne (by omega))).trans (k26 j hj)
  have k27 : ∀ n j, 0 ≤ n → n < 8 → 4 < n → G17 (27, 8 * f + n, j) = none := fun n j n0 n1 n2 => (f17 _ (rl_ne (by omega))).trans (k27 n j n0 n1 n2)
  have fr17 : ffr f G G17 := ffr_t fr16 (ffr_s (by omega) f17)
  have c16 := c1.1
  have fin : ∀ G8 : GH, (∀ q : Rl, ¬ (q.1 = 27 ∧ q.2.1 = 8 * f + 1) → G8 q = G17 q) → (∀ i : Int, 0 ≤ i → i < H → bar G8 27 0 (8 * f + 1) i W (fun _ => -1)) → K none G8 := by
    intro G8 f8 r8
    refine h G8 (fun q q1 q2 => (f8 q (by omega)).trans (fr17 q q1 q2)) ⟨⟨0, 0, 0, 0, 0, 0, 0, 0, 0, 0, rfl, (f8 _ (by simp only []; omega)).trans a17⟩, fb0_b (fb0_fr (f8 _ (by simp only []; omega)) (fun i => f8 _ (by simp only []; omega)) c0), ⟨(f8 _ (by simp only []; omega)).trans c16, r8⟩, fb0_b (fb0_fr (f8 _ (by simp only []; omega)) (fun i => f8 _ (by simp only []; omega)) c2), fb0_b (fb0_fr (f8 _ (by simp only []; omega)) (fun i => f8 _ (by simp only []; omega)) c3), fb0_b (fb0_fr (f8 _ (by simp only []; omega)) (fun i => f8 _ (by simp only []; omega)) c4), (f8 _ (by simp only []; omega)).trans a2, (f8 _ (by simp only []; omega)).trans a4⟩
  have hst : ∃ S : Int → Int → GH → Prop, S = fun e j G8 => (∀ q : Rl, ¬ (q.1 = 27 ∧ q.2.1 = 8 * f + 1) → G8 q = G17 q) ∧ ∀ i : Int, 0 ≤ i → i < H → ∃ g, G8 (27, 8 * f + 1, i) = some (xar 0 W g) ∧ ∀ j' : Int, 0 ≤ j' → j' < W → (i < e ∨ i = e ∧ j' < j) → g j' = -1 := ⟨_, rfl⟩
  obtain ⟨S, hS⟩ := hst
  refine w_aload_n (pc' := 86) dX10_init_85 rfl rfl ?_
  refine w_get 5 (pc' := 89) dX10_init_86 rfl fX10_34_8 a17 rfl ?_
  refine w_ast4 (pc' := 91) dX10_init_89 rfl rfl ?_
  refine w_aload (pc' := 93) dX10_init_91 rfl rfl ?_
  -- at 93: .arraylength
  refine w_alenR (pc' := 94) dX10_init_93 rfl c16 ?_
  refine w_ist5 (pc' := 96) dX10_init_94 rfl rfl ?_
  refine w_iconst (pc' := 97) dX10_init_96 rfl (by decide) ?_
  refine w_ist6 (pc' := 99) dX10_init_97 rfl rfl ?_
  -- at 99: .iload 6
  refine up (T := fun e => 0 ≤ e → ∀ (x y : Option XV) (G8 : GH), S e 0 G8 → tvW mX10_init (d + 1) K 99 [some (xR (fO f)), some (xR oR), some (xI H), some (xI W), some (xR (26, f, 1)), some (xI H), some (xI e), x, y] [] G8 0 0) (H : Int) (by omega) ?_ ?_ (Int.le_refl _) none none G17 (by rw [hS]; exact ⟨fun _ _ => rfl, fun i i0 i1 => ⟨_, c1.2 i i0 i1, fun j' _ _ z => by omega⟩⟩)
  · intro _ x y G8 s
    rw [hS] at s
    refine w_iload (pc' := 101) dX10_init_99 rfl rfl ?_
    refine w_iload (pc' := 103) dX10_init_101 rfl rfl ?_
    -- at 103: .if_icmp .ge 37
    refine w_icmp_ge (pc' := 106) (tgt := 140) dX10_init_103 rfl rfl (fun h_ => ?_) (fun h_ => False.elim (by first | omega | (simp (decide := true) only [au_1, nu_2, au_lt, nu_lt, aw_e, nw_e, au_s, au_n, nu_s, nu_n, au_au, nu_nu, au_nu] at h_; omega)))
    refine w_return dX10_init_140 rfl ?_
    refine fin G8 s.1 (fun i i0 i1 => ?_)
    obtain ⟨g, g1, g2⟩ := s.2 i i0 i1
    exact ⟨g, g1, fun j j0 j1 => g2 j j0 j1 (Or.inl i1)⟩
  · intro e e0 e1 ih _ x y G8 s
    have s0 := s
    rw [hS] at s0
    have c8 := (s0.1 (26, f, 1) (by simp only []; omega)).trans c16
    refine w_iload (pc' := 101) dX10_init_99 rfl rfl ?_
    refine w_iload (pc' := 103) dX10_init_101 rfl rfl ?_
    -- at 103: .if_icmp .ge 37
    refine w_icmp_ge (pc' := 106) (tgt := 140) dX10_init_103 rfl rfl (fun h_ => False.elim (by first | omega | (simp (decide := true) only [au_1, nu_2, au_lt, nu_lt, aw_e, nw_e, au_s, au_n, nu_s, nu_n, au_au, nu_nu, au_nu] at h_; omega))) (fun h_ => ?_)
    refine w_aload (pc' := 108) dX10_init_106 rfl rfl ?_
    refine w_iload (pc' := 110) dX10_init_108 rfl rfl ?_
    refine w_aaldM (pc' := 111) dX10_init_110 rfl c8 e0 e1 ?_
    refine w_ast7 (pc' := 113) dX10_init_111 rfl rfl ?_
    refine w_iconst (pc' := 114) dX10_init_113 rfl (by decide) ?_
    refine w_ist8 (pc' := 116) dX10_init_114 rfl rfl ?_
    -- at 116: .iload 8
    refine up (T := fun j => 0 ≤ j → ∀ (G8 : GH), S e j G8 → tvW mX10_init (d + 1) K 116 [some (xR (fO f)), some (xR oR), some (xI H), some (xI W), some (xR (26, f, 1)), some (xI H), some (xI e), some (xR (27, 8 * f + 1, e)), some (xI j)] [] G8 0 0) (W : Int) (by omega) ?_ ?_ (Int.le_refl _) G8 s
    · intro _ G8 s
      refine w_iload (pc' := 118) dX10_init_116 rfl rfl ?_
      refine w_iload_n (pc' := 119) dX10_init_118 rfl rfl ?_
      -- at 119: .if_icmp .ge 15
      refine w_icmp_ge (pc' := 122) (tgt := 134) dX10_init_119 rfl rfl (fun h_ => ?_) (fun h_ => False.elim (by first | omega | (simp (decide := true) only [au_1, nu_2, au_lt, nu_lt, aw_e, nw_e, au_s, au_n, nu_s, nu_n, au_au, nu_nu, au_nu] at h_; omega)))
      refine w_inc6 (pc' := 137) dX10_init_134 rfl rfl ⟨by first | omega | (simp (decide := true) only [au_1, nu_2, au_lt, nu_lt, aw_e, nw_e, au_s, au_n, nu_s, nu_n, au_au, nu_nu, au_nu]; omega), by first | omega | (simp (decide := true) only [au_1, nu_2, au_lt, nu_lt, aw_e, nw_e, au_s, au_n, nu_s, nu_n, au_au, nu_nu, au_nu]; omega)⟩ ?_
      refine w_goto (tgt := 99) dX10_init_137 rfl ?_
      -- at 99: .iload 6
      refine ih (by omega) _ _ G8 ?_
      rw [hS] at s ⊢
      refine ⟨s.1, fun i i0 i1 => ?_⟩
      obtain ⟨g, g1, g2⟩ := s.2 i i0 i1
      exact ⟨g, g1, fun j' a1 a2 a3 => g2 j' a1 a2 (by omega)⟩
    · intro j j0 j1 ihj _ G8 s
      rw [hS] at s
      obtain ⟨s1, s2⟩ := s
      obtain ⟨g, g1, g2⟩ := s2 e e0 e1
      refine w_iload (pc' := 118) dX10_init_116 rfl rfl ?_
      refine w_iload_n (pc' := 119) dX10_init_118 rfl rfl ?_
      -- at 119: .if_icmp .ge 15
      refine w_icmp_ge (pc' := 122) (tgt := 134) dX10_init_119 rfl rfl (fun h_ => False.elim (by first | omega | (simp (decide := true) only [au_1, nu_2, au_lt, nu_lt, aw_e, nw_e, au_s, au_n, nu_s, nu_n, au_au, nu_nu, au_nu] at h_; omega))) (fun h_ => ?_)
      refine w_aload (pc' := 124) dX10_init_122 rfl rfl ?_
      refine w_iload (pc' := 126) dX10_init_124 rfl rfl ?_
      refine w_iconst (pc' := 127) dX10_init_126 rfl (by decide) ?_
      refine w_iast (pc' := 128) dX10_init_127 rfl g1 j0 j1  ?_
      -- at 128: .iinc 8 1
      refine w_upd (fun G9 a9 f9 => ?_)
      refine w_inc8 (pc' := 131) dX10_init_128 rfl rfl ⟨by first | omega | (simp (decide := true) only [au_1, nu_2, au_lt, nu_lt, aw_e, nw_e, au_s, au_n, nu_s, nu_n, au_au, nu_nu, au_nu]; omega), by first | omega | (simp (decide := true) only [au_1, nu_2, au_lt, nu_lt, aw_e, nw_e, au_s, au_n, nu_s, nu_n, au_au, nu_nu, au_nu]; omega)⟩ ?_
      refine w_goto (tgt := 116) dX10_init_131 rfl ?_
      -- at 116: .iload 8
      refine ihj (by omega) G9 ?_
      rw [hS]
      refine ⟨fun q hq => (f9 q (fun z => hq (by rw [z]; exact ⟨rfl, rfl⟩))).trans (s1 q hq), fun i i0 i1 => ?_⟩
      by_cases ei : i = e
      · subst ei
        refine ⟨_, a9, fun j' a1 a2 a3 => ?_⟩
        unfold iset
        by_cases ej : j' = j
        · rw [if_pos ej]
        · rw [if_neg ej]
          exact g2 j' a1 a2 (by omega)
      · obtain ⟨g', g1', g2'⟩ := s2 i i0 i1
        exact ⟨g', (f9 _ (rl_ne (by omega))).trans g1', fun j' a1 a2 a3 => g2' j' a1 a2 (by omega)⟩
end
