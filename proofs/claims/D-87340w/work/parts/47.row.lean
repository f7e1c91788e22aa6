set_option maxRecDepth 10000
section
variable {d : Nat} {K : Option XV → GH → Prop} {G0 G : GH} {bc bs : Nat} {σ : MS}
theorem ne_of {G : GH} {q r : Rl} {e : XE} (h : G q = some e) (h' : G r = none) : q ≠ r := fun z => by rw [z, h'] at h; cases h
theorem shr4 {E e : Int} (hE : 0 ≤ E ∧ E ≤ 65535) (h0 : 0 ≤ e) (h1 : e < 4) : bAnd (bShr E (4 * e)) 15 = E / ((2 ^ (4 * e).toNat : Nat) : Int) % 16 := by
  rw [bAnd_15]
  have he : e = 0 ∨ e = 1 ∨ e = 2 ∨ e = 3 := by omega
  rcases he with rfl | rfl | rfl | rfl
  · rw [show (4 * 0 : Int) = 0 by decide, bShr_0 ⟨by omega, by omega⟩]; simp
  · rw [show (4 * 1 : Int) = 4 by decide, bShr_4 ⟨by omega, by omega⟩]; simp
  · rw [show (4 * 2 : Int) = 8 by decide, bShr_8 ⟨by omega, by omega⟩]; simp
  · rw [show (4 * 3 : Int) = 12 by decide, bShr_12 ⟨by omega, by omega⟩]; simp
theorem c_X2_init {r c : Rl} {E t mir cst nm : Int} (hr : G r = some (xob 2 [xN, xI 0, xI 0, xI 0, xL 0])) (hc : G c = none) (h99 : c.1 ≠ 99) (hE : 0 ≤ E ∧ E ≤ 65535) (hm : mir = 0 ∨ mir = 1)
    (h : ∀ G', (∀ q, q ≠ r → q ≠ c → G' q = G q) → tle G' r c E t cst mir nm → K none G') : tvW mX2_init (d + 1) K 0 [some (xR r), some (xI E), some (xI t), some (xI mir), some (xI cst), some (xL nm), none, none] [] G 1 4 := by
  have hne := ne_of hr hc
  refine w_aload_n (pc' := 1) dX2_init_0 rfl rfl ?_
  -- at 1: .invokespecial 1
  refine w_objI (pc' := 4) dX2_init_1 rfl q235 q110 q111 (Nat.le_of_ble_eq_true rfl) ?_
  refine w_aload_n (pc' := 5) dX2_init_4 rfl rfl ?_
  refine w_iconst (pc' := 6) dX2_init_5 rfl (by decide) ?_
  refine w_newi c 4 (pc' := 8) dX2_init_6 rfl rfl (by omega) (by assumption) (by first | assumption | simp) ?_
  -- at 8: .putfield 7
  refine w_upd (fun G1 a1 f1 => ?_)
  have b1 := (f1 _ hne).trans hr
  refine w_put 0 (pc' := 11) dX2_init_8 rfl pX2_7_2 (by decide) b1 (Nat.le_of_ble_eq_true rfl) trivial ?_
  -- at 11: .iconst 0
  refine w_upd (fun G2 a2 f2 => ?_)
  have b2 := (f2 _ (Ne.symm hne)).trans a1
  have loop : ∀ e : Int, 0 ≤ e → e ≤ 4 → ∀ (G3 : GH) (g : Int → Int), G3 r = some (xob 2 [xR c, xI 0, xI 0, xI 0, xL 0]) → G3 c = some (xar 0 4 g) → (∀ q, q ≠ r → q ≠ c → G3 q = G q) → (∀ i, 0 ≤ i → i < e → g i = E / ((2 ^ (4 * i).toNat : Nat) : Int) % 16) → tvW mX2_init (d + 1) K 14 [some (xR r), some (xI E), some (xI t), some (xI mir), some (xI cst), some (xL nm), none, some (xI e)] [] G3 0 0 := by
    intro e e0 e4
    refine up (T := fun e => 0 ≤ e → ∀ (G3 : GH) (g : Int → Int), G3 r = some (xob 2 [xR c, xI 0, xI 0, xI 0, xL 0]) → G3 c = some (xar 0 4 g) → (∀ q, q ≠ r → q ≠ c → G3 q = G q) → (∀ i, 0 ≤ i → i < e → g i = E / ((2 ^ (4 * i).toNat : Nat) : Int) % 16) → tvW mX2_init (d + 1) K 14 [some (xR r), some (xI E), some (xI t), some (xI mir), some (xI cst), some (xL nm), none, some (xI e)] [] G3 0 0) 4 e4 ?_ ?_ e0
    · intro _ G3 g x1 x2 x3 x4
      refine w_iload (pc' := 16) dX2_init_14 rfl rfl ?_
      refine w_iconst (pc' := 17) dX2_init_16 rfl (by decide) ?_
      -- at 17: .if_icmp .ge 25
      refine w_icmp_ge (pc' := 20) (tgt := 42) dX2_init_17 rfl rfl (fun h_ => ?_) (fun h_ => False.elim (by first | omega | (simp (decide := true) only [au_1, nu_2, au_lt, nu_lt, aw_e, nw_e, au_s, au_n, nu_s, nu_n, au_au, nu_nu, au_nu] at h_; omega)))
      refine w_aload_n (pc' := 43) dX2_init_42 rfl rfl ?_
      refine w_iload_n (pc' := 44) dX2_init_43 rfl rfl ?_
      refine w_put 1 (pc' := 47) dX2_init_44 rfl pX2_13_2 (by decide) x1 (Nat.le_of_ble_eq_true rfl) trivial ?_
      -- at 47: .aload_n 0
      refine w_upd (fun G4 y1 g1 => ?_)
      refine w_aload_n (pc' := 48) dX2_init_47 rfl rfl ?_
      refine w_iload_n (pc' := 49) dX2_init_48 rfl rfl ?_
      refine w_put 3 (pc' := 52) dX2_init_49 rfl pX2_17_2 (by decide) y1 (Nat.le_of_ble_eq_true rfl) hm ?_
      -- at 52: .aload_n 0
      refine w_upd (fun G5 y2 g2 => ?_)
      refine w_aload_n (pc' := 53) dX2_init_52 rfl rfl ?_
      refine w_iload (pc' := 55) dX2_init_53 rfl rfl ?_
      refine w_put 2 (pc' := 58) dX2_init_55 rfl pX2_21_2 (by decide) y2 (Nat.le_of_ble_eq_true rfl) trivial ?_
      -- at 58: .aload_n 0
      refine w_upd (fun G6 y3 g3 => ?_)
      refine w_aload_n (pc' := 59) dX2_init_58 rfl rfl ?_
      refine w_lload (pc' := 61) dX2_init_59 rfl rfl ?_
      refine w_put 4 (pc' := 64) dX2_init_61 rfl pX2_24_2 (by decide) y3 (Nat.le_of_ble_eq_true rfl) trivial ?_
      -- at 64: .return_
      refine w_upd (fun G7 y4 g4 => ?_)
      refine w_return dX2_init_64 rfl ?_
      refine h G7 (fun q q1 q2 => ?_) ⟨y4, g, ?_, x4⟩
      · rw [g4 q q1, g3 q q1, g2 q q1, g1 q q1, x3 q q1 q2]
      · rw [g4 _ hne.symm, g3 _ hne.symm, g2 _ hne.symm, g1 _ hne.symm]
        exact x2
    · intro i i1 i2 ih i0 G3 g x1 x2 x3 x4
      refine w_iload (pc' := 16) dX2_init_14 rfl rfl ?_
      refine w_iconst (pc' := 17) dX2_init_16 rfl (by decide) ?_
      -- at 17: .if_icmp .ge 25
      refine w_icmp_ge (pc' := 20) (tgt := 42) dX2_init_17 rfl rfl (fun h_ => False.elim (by first | omega | (simp (decide := true) only [au_1, nu_2, au_lt, nu_lt, aw_e, nw_e, au_s, au_n, nu_s, nu_n, au_au, nu_nu, au_nu] at h_; omega))) (fun h_ => ?_)
      refine w_aload_n (pc' := 21) dX2_init_20 rfl rfl ?_
      refine w_get 0 (pc' := 24) dX2_init_21 rfl fX2_7_2 x1 rfl ?_
      refine w_iload (pc' := 26) dX2_init_24 rfl rfl ?_
      refine w_iload_n (pc' := 27) dX2_init_26 rfl rfl ?_
      refine w_iconst (pc' := 28) dX2_init_27 rfl (by decide) ?_
      refine w_iload (pc' := 30) dX2_init_28 rfl rfl ?_
      refine w_imul (pc' := 31) dX2_init_30 rfl ⟨by first | omega | (simp (decide := true) only [au_1, nu_2, au_lt, nu_lt, aw_e, nw_e, au_s, au_n, nu_s, nu_n, au_au, nu_nu, au_nu]; omega), by first | omega | (simp (decide := true) only [au_1, nu_2, au_lt, nu_lt, aw_e, nw_e, au_s, au_n, nu_s, nu_n, au_au, nu_nu, au_nu]; omega)⟩ ?_
      refine w_ishr (pc' := 32) dX2_init_31 rfl ?_
      refine w_bipush (pc' := 34) dX2_init_32 rfl (by decide +kernel) (by decide) ?_
      refine w_iand (pc' := 35) dX2_init_34 rfl ?_
      -- at 35: .iastore
      rw [shr4 hE i0 i2]
      refine w_iast (pc' := 36) dX2_init_35 rfl x2 (by omega) (by omega)  ?_
      -- at 36: .iinc 7 1
      refine w_upd (fun G4 y1 g1 => ?_)
      refine w_inc7 (pc' := 39) dX2_init_36 rfl rfl ⟨by first | omega | (simp (decide := true) only [au_1, nu_2, au_lt, nu_lt, aw_e, nw_e, au_s, au_n, nu_s, nu_n, au_au, nu_nu, au_nu]; omega), by first | omega | (simp (decide := true) only [au_1, nu_2, au_lt, nu_lt, aw_e, nw_e, au_s, au_n, nu_s, nu_n, au_au, nu_nu, au_nu]; omega)⟩ ?_
      refine w_goto (tgt := 14) dX2_init_39 rfl ?_
      -- at 14: .iload 7
      refine ih (by omega) G4 _ ((g1 _ hne).trans x1) y1 (fun q q1 q2 => (g1 q q2).trans (x3 q q1 q2)) ?_
      intro j j0 j1
      unfold iset
      split
      · rename_i q; rw [q]
      · exact x4 j j0 (by omega)
  refine w_iconst (pc' := 12) dX2_init_11 rfl (by decide) ?_
  refine w_ist7 (pc' := 14) dX2_init_12 rfl rfl ?_
  -- at 14: .iload 7
  exact loop 0 (by omega) (by omega) G2 _ a2 b2 (fun q q1 q2 => (f2 q q1).trans (f1 q q2)) (fun i i0 i1 => by omega)
/-- a row: its number, length, offset, its cells -/
abbrev rO (q : Int) : Rl := (14, q, 0)
abbrev rK (q : Int) : Rl := (15, q, 0)
abbrev rM (q : Int) : Rl := (16, q, 0)
abbrev rS (q : Int) : Rl := (17, q, 0)
def row (G : GH) (q len off : Int) (C : Int → Int) : Prop := G (rO q) = some (xob 5 [xR (rK q), xR (rM q), xR (rS q), xI off]) ∧ ∃ (n : Nat) (fk fm fs : Int → Int), (n : Int) = len ∧ G (rK q) = some (xar 1 n fk) ∧ G (rM q) = some (xar 1 n fm) ∧ G (rS q) = some (xar 2 n fs) ∧ ∀ j, 0 ≤ j → j < len → fk j = cdat (C j) 0 ∧ fm j = cdat (C j) 1 ∧ fs j = cdat (C j) 2
def rfr (q : Int) (G G' : GH) : Prop := ∀ r : Rl, ¬ ((14 ≤ r.1 ∧ r.1 < 18) ∧ r.2.1 = q) → G' r = G r
theorem rfr_s {q : Int} {G G' : GH} {t : Nat} {z : Int} (ht : 14 ≤ t ∧ t < 18) (h : ∀ r, r ≠ ((t, q, z) : Rl) → G' r = G r) : rfr q G G' := fun r hr => h r (fun e => hr (by rw [e]; exact ⟨ht, rfl⟩))
theorem rfr_t {q : Int} {G G1 G2 : GH} (h : rfr q G G1) (h' : rfr q G1 G2) : rfr q G G2 := fun r hr => (h' r hr).trans (h r hr)
theorem row_fr {G G' : GH} {q q' len off : Int} {C : Int → Int} (hq : q ≠ q') (hf : rfr q G G') (h : row G q' len off C) : row G' q' len off C := by
  obtain ⟨h1, n, fk, fm, fs, h2, h3, h4, h5, h6⟩ := h
  exact ⟨(hf _ (by simp only []; omega)).trans h1, n, fk, fm, fs, h2, (hf _ (by simp only []; omega)).trans h3, (hf _ (by simp only []; omega)).trans h4, (hf _ (by simp only []; omega)).trans h5, h6⟩
theorem c_X6_has {q len off j : Int} {C : Int → Int} (hR : row G q len off C) (hl : len ≤ 60) (ho : -30 ≤ off ∧ off ≤ 30) (h1 : off ≤ j → j < off + len → K (some (xI 1)) G) (h0 : ¬ (off ≤ j ∧ j < off + len) → K (some (xI 0)) G) : tvW mX6_has d K 0 [some (xR (rO q)), some (xI j)] [] G bc bs := by
  obtain ⟨hO, n, fk, fm, fs, hn, hk, hm, hs, hc⟩ := hR
  have no : ¬ (off ≤ j ∧ j < off + len) → tvW mX6_has d K 26 [some (xR (rO q)), some (xI j)] [] G bc bs := by
    intro g
    refine w_iconst (pc' := 27) dX6_has_26 rfl (by decide) ?_
    -- at 27: .ireturn
    refine w_zreturn dX6_has_27 rfl (by first | exact Or.inl rfl | exact Or.inr rfl | omega) ?_
    exact h0 g
  refine w_iload_n (pc' := 1) dX6_has_0 rfl rfl ?_
  refine w_aload_n (pc' := 2) dX6_has_1 rfl rfl ?_
  refine w_get 3 (pc' := 5) dX6_has_2 rfl fX6_22_5 hO rfl ?_
  -- at 5: .if_icmp .lt 21
  refine w_icmp_lt (pc' := 8) (tgt := 26) dX6_has_5 rfl rfl (fun g => ?_) (fun g => ?_)
  · exact no (by omega)
  · refine w_iload_n (pc' := 9) dX6_has_8 rfl rfl ?_
    refine w_aload_n (pc' := 10) dX6_has_9 rfl rfl ?_
    refine w_get 3 (pc' := 13) dX6_has_10 rfl fX6_22_5 hO rfl ?_
    refine w_aload_n (pc' := 14) dX6_has_13 rfl rfl ?_
    refine w_get 0 (pc' := 17) dX6_has_14 rfl fX6_9_5 hO rfl ?_
    refine w_alen (pc' := 18) dX6_has_17 rfl hk ?_
    refine w_iadd (pc' := 19) dX6_has_18 rfl ⟨by first | omega | (simp (decide := true) only [au_1, nu_2, au_lt, nu_lt, aw_e, nw_e, au_s, au_n, nu_s, nu_n, au_au, nu_nu, au_nu]; omega), by first | omega | (simp (decide := true) only [au_1, nu_2, au_lt, nu_lt, aw_e, nw_e, au_s, au_n, nu_s, nu_n, au_au, nu_nu, au_nu]; omega)⟩ ?_
    -- at 19: .if_icmp .ge 7
    rw [hn]
    refine w_icmp_ge (pc' := 22) (tgt := 26) dX6_has_19 rfl rfl (fun g2 => ?_) (fun g2 => ?_)
    · exact no (by omega)
    · refine w_iconst (pc' := 23) dX6_has_22 rfl (by decide) ?_
      refine w_goto (tgt := 27) dX6_has_23 rfl ?_
      -- at 27: .ireturn
      refine w_zreturn dX6_has_27 rfl (by first | exact Or.inl rfl | exact Or.inr rfl | omega) ?_
      exact h1 (by omega) (by omega)
theorem iB_id {a : Int} (h : -128 ≤ a ∧ a ≤ 127) : iB a = a := by
  have e := congrArg Int32.toInt (e_iB h)
  rw [Int8.toInt_toInt32, e_toInt ⟨by omega, by omega⟩] at e
  exact e
theorem iS_id {a : Int} (h : -32768 ≤ a ∧ a ≤ 32767) : iS a = a := by
  have e := congrArg Int32.toInt (e_iS h)
  rw [Int16.toInt_toInt32, e_toInt ⟨by omega, by omega⟩] at e
  exact e
theorem c_X6_set {q len off x c ki mo sh : Int} {C : Int → Int} (hR : row G q len off C) (hx : 0 ≤ x ∧ x < len) (hk : ki = cdat c 0) (hm : mo = cdat c 1) (hs : sh = cdat c 2) (rk : -128 ≤ ki ∧ ki ≤ 127) (rm : -128 ≤ mo ∧ mo ≤ 127) (rs : -32768 ≤ sh ∧ sh ≤ 32767)
    (h : ∀ G', rfr q G G' → row G' q len off (iset C x c) → K none G') : tvW mX6_set d K 0 [some (xR (rO q)), some (xI x), some (xI ki), some (xI mo), some (xI sh)] [] G bc bs := by
  obtain ⟨hO, n, fk, fm, fs, hn, ak, am, as, hc⟩ := hR
  refine w_aload_n (pc' := 1) dX6_set_0 rfl rfl ?_
  refine w_get 0 (pc' := 4) dX6_set_1 rfl fX6_9_5 hO rfl ?_
  refine w_iload_n (pc' := 5) dX6_set_4 rfl rfl ?_
  refine w_iload_n (pc' := 6) dX6_set_5 rfl rfl ?_
  refine w_i2b (pc' := 7) dX6_set_6 rfl ?_
  -- at 7: .bastore
  rw [iB_id rk]
  refine w_bast (pc' := 8) dX6_set_7 rfl ak (by omega) (by omega) ⟨by omega, by omega⟩ ?_
  -- at 8: .aload_n 0
  refine w_upd (fun G1 a1 f1 => ?_)
  have hO := (f1 _ (rl_ne (by omega))).trans hO
  have am := (f1 _ (rl_ne (by omega))).trans am
  have as := (f1 _ (rl_ne (by omega))).trans as
  refine w_aload_n (pc' := 9) dX6_set_8 rfl rfl ?_
  refine w_get 1 (pc' := 12) dX6_set_9 rfl fX6_15_5 hO rfl ?_
  refine w_iload_n (pc' := 13) dX6_set_12 rfl rfl ?_
  refine w_iload_n (pc' := 14) dX6_set_13 rfl rfl ?_
  refine w_i2b (pc' := 15) dX6_set_14 rfl ?_
  -- at 15: .bastore
  rw [iB_id rm]
  refine w_bast (pc' := 16) dX6_set_15 rfl am (by omega) (by omega) ⟨by omega, by omega⟩ ?_
  -- at 16: .aload_n 0
  refine w_upd (fun G2 a2 f2 => ?_)
  have hO := (f2 _ (rl_ne (by omega))).trans hO
  have a1 := (f2 _ (rl_ne (by omega))).trans a1
  have as := (f2 _ (rl_ne (by omega))).trans as
  refine w_aload_n (pc' := 17) dX6_set_16 rfl rfl ?_
  refine w_get 2 (pc' := 20) dX6_set_17 rfl fX6_18_5 hO rfl ?_
  refine w_iload_n (pc' := 21) dX6_set_20 rfl rfl ?_
  refine w_iload (pc' := 23) dX6_set_21 rfl rfl ?_
  refine w_i2s (pc' := 24) dX6_set_23 rfl ?_
  -- at 24: .sastore
  rw [iS_id rs]
  refine w_sast (pc' := 25) dX6_set_24 rfl as (by omega) (by omega) ⟨by omega, by omega⟩ ?_
  -- at 25: .return_
  refine w_upd (fun G3 a3 f3 => ?_)
  have hO := (f3 _ (rl_ne (by omega))).trans hO
  have a1 := (f3 _ (rl_ne (by omega))).trans a1
  have a2 := (f3 _ (rl_ne (by omega))).trans a2
  refine w_return dX6_set_25 rfl ?_
  refine h G3 (rfr_t (rfr_s (by omega) f1) (rfr_t (rfr_s (by omega) f2) (rfr_s (by omega) f3))) ⟨hO, n, _, _, _, hn, a1, a2, a3, ?_⟩
  intro j j0 j1
  unfold iset
  by_cases e : j = x
  · rw [if_pos e, if_pos e, if_pos e, if_pos e]
    exact ⟨hk, hm, hs⟩
  · rw [if_neg e, if_neg e, if_neg e, if_neg e]
    exact hc j j0 j1
theorem c_X6_init {q off : Int} {n : Nat} (hO : G (rO q) = some (xob 5 [xN, xN, xN, xI 0])) (h15 : G (rK q) = none) (h16 : G (rM q) = none) (h17 : G (rS q) = none) (hn : n ≤ 60)
    (h : ∀ G', rfr q G G' → row G' q n off (fun _ => 0) → K none G') : tvW mX6_init (d + 1) K 0 [some (xR (rO q)), some (xI n), some (xI off), none] [] G 3 180 := by
  refine w_less (bc' := 0 + 1 + 1 + 1) (bs' := 0 + n + n + n) (by omega) (by omega) ?_
  refine w_aload_n (pc' := 1) dX6_init_0 rfl rfl ?_
  -- at 1: .invokespecial 3
  refine w_objI (pc' := 4) dX6_init_1 rfl q430 q110 q111 (Nat.le_of_ble_eq_true rfl) ?_
  refine w_aload_n (pc' := 5) dX6_init_4 rfl rfl ?_
  refine w_iload_n (pc' := 6) dX6_init_5 rfl rfl ?_
  refine w_newb (rK q) n (pc' := 8) dX6_init_6 rfl rfl (by omega) (by assumption) (by first | assumption | simp) ?_
  -- at 8: .putfield 9
  refine w_upd (fun G1 a1 f1 => ?_)
  have hO := (f1 _ (rl_ne (by omega))).trans hO
  have h16 := (f1 _ (rl_ne (by omega))).trans h16
  have h17 := (f1 _ (rl_ne (by omega))).trans h17
  refine w_put 0 (pc' := 11) dX6_init_8 rfl pX6_9_5 (by decide) hO (Nat.le_of_ble_eq_true rfl) trivial ?_
  -- at 11: .aload_n 0
  refine w_upd (fun G2 a2 f2 => ?_)
  have a1 := (f2 _ (rl_ne (by omega))).trans a1
  have h16 := (f2 _ (rl_ne (by omega))).trans h16
  have h17 := (f2 _ (rl_ne (by omega))).trans h17
  refine w_aload_n (pc' := 12) dX6_init_11 rfl rfl ?_
  refine w_iload_n (pc' := 13) dX6_init_12 rfl rfl ?_
  refine w_newb (rM q) n (pc' := 15) dX6_init_13 rfl rfl (by omega) (by assumption) (by first | assumption | simp) ?_
  -- at 15: .putfield 15
  refine w_upd (fun G3 a3 f3 => ?_)
  have a1 := (f3 _ (rl_ne (by omega))).trans a1
  have a2 := (f3 _ (rl_ne (by omega))).trans a2
  have h17 := (f3 _ (rl_ne (by omega))).trans h17
  refine w_put 1 (pc' := 18) dX6_init_15 rfl pX6_15_5 (by decide) a2 (Nat.le_of_ble_eq_true rfl) trivial ?_
  -- at 18: .aload_n 0
  refine w_upd (fun G4 a4 f4 => ?_)
  have a1 := (f4 _ (rl_ne (by omega))).trans a1
  have a3 := (f4 _ (rl_ne (by omega))).trans a3
  have h17 := (f4 _ (rl_ne (by omega))).trans h17
  refine w_aload_n (pc' := 19) dX6_init_18 rfl rfl ?_
  refine w_iload_n (pc' := 20) dX6_init_19 rfl rfl ?_
  refine w_news (rS q) n (pc' := 22) dX6_init_20 rfl rfl (by omega) (by assumption) (by first | assumption | simp) ?_
  -- at 22: .putfield 18
  refine w_upd (fun G5 a5 f5 => ?_)
  have a1 := (f5 _ (rl_ne (by omega))).trans a1
  have a3 := (f5 _ (rl_ne (by omega))).trans a3
  have a4 := (f5 _ (rl_ne (by omega))).trans a4
  refine w_put 2 (pc' := 25) dX6_init_22 rfl pX6_18_5 (by decide) a4 (Nat.le_of_ble_eq_true rfl) trivial ?_
  -- at 25: .aload_n 0
  refine w_upd (fun G6 a6 f6 => ?_)
  have a1 := (f6 _ (rl_ne (by omega))).trans a1
  have a3 := (f6 _ (rl_ne (by omega))).trans a3
  have a5 := (f6 _ (rl_ne (by omega))).trans a5
  refine w_aload_n (pc' := 26) dX6_init_25 rfl rfl ?_
  refine w_iload_n (pc' := 27) dX6_init_26 rfl rfl ?_
  refine w_put 3 (pc' := 30) dX6_init_27 rfl pX6_22_5 (by decide) a6 (Nat.le_of_ble_eq_true rfl) trivial ?_
  -- at 30: .iconst 0
  refine w_upd (fun G7 a7 f7 => ?_)
  have a1 := (f7 _ (rl_ne (by omega))).trans a1
  have a3 := (f7 _ (rl_ne (by omega))).trans a3
  have a5 := (f7 _ (rl_ne (by omega))).trans a5
  have fr : rfr q G G7 := rfr_t (rfr_s (by omega) f1) (rfr_t (rfr_s (by omega) f2) (rfr_t (rfr_s (by omega) f3) (rfr_t (rfr_s (by omega) f4) (rfr_t (rfr_s (by omega) f5) (rfr_t (rfr_s (by omega) f6) (rfr_s (by omega) f7))))))
  refine w_iconst (pc' := 31) dX6_init_30 rfl (by decide) ?_
  refine w_ist3 (pc' := 32) dX6_init_31 rfl rfl ?_
  -- at 32: .iload_n 3
  refine up (T := fun e => 0 ≤ e → ∀ (G8 : GH) (g : Int → Int), rfr q G G8 → G8 (rO q) = some (xob 5 [xR (rK q), xR (rM q), xR (rS q), xI off]) → G8 (rK q) = some (xar 1 n g) → G8 (rM q) = some (xar 1 n (fun _ => 0)) → G8 (rS q) = some (xar 2 n (fun _ => 0)) → (∀ i, 0 ≤ i → i < e → g i = -1) → tvW mX6_init (d + 1) K 32 [some (xR (rO q)), some (xI n), some (xI off), some (xI e)] [] G8 0 0) (n : Int) (by omega) ?_ ?_ (by omega) G7 _ fr a7 a1 a3 a5 (fun i i0 i1 => by omega)
  · intro _ G8 g x1 x2 x3 x4 x5 x6
    refine w_iload_n (pc' := 33) dX6_init_32 rfl rfl ?_
    refine w_iload_n (pc' := 34) dX6_init_33 rfl rfl ?_
    -- at 34: .if_icmp .ge 16
    refine w_icmp_ge (pc' := 37) (tgt := 50) dX6_init_34 rfl rfl (fun h_ => ?_) (fun h_ => False.elim (by first | omega | (simp (decide := true) only [au_1, nu_2, au_lt, nu_lt, aw_e, nw_e, au_s, au_n, nu_s, nu_n, au_au, nu_nu, au_nu] at h_; omega)))
    refine w_return dX6_init_50 rfl ?_
    exact h G8 x1 ⟨x2, n, _, _, _, rfl, x3, x4, x5, fun j j0 j1 => ⟨(x6 j j0 j1).trans rfl, rfl, rfl⟩⟩
  · intro i i1 i2 ih i0 G8 g x1 x2 x3 x4 x5 x6
    refine w_iload_n (pc' := 33) dX6_init_32 rfl rfl ?_
    refine w_iload_n (pc' := 34) dX6_init_33 rfl rfl ?_
    -- at 34: .if_icmp .ge 16
    refine w_icmp_ge (pc' := 37) (tgt := 50) dX6_init_34 rfl rfl (fun h_ => False.elim (by first | omega | (simp (decide := true) only [au_1, nu_2, au_lt, nu_lt, aw_e, nw_e, au_s, au_n, nu_s, nu_n, au_au, nu_nu, au_nu] at h_; omega))) (fun h_ => ?_)
    refine w_aload_n (pc' := 38) dX6_init_37 rfl rfl ?_
    refine w_get 0 (pc' := 41) dX6_init_38 rfl fX6_9_5 x2 rfl ?_
    refine w_iload_n (pc' := 42) dX6_init_41 rfl rfl ?_
    refine w_iconst (pc' := 43) dX6_init_42 rfl (by decide) ?_
    refine w_bast (pc' := 44) dX6_init_43 rfl x3 (by omega) (by omega) ⟨by omega, by omega⟩ ?_
    -- at 44: .iinc 3 1
    refine w_upd (fun G9 y1 g1 => ?_)
    have x2 := (g1 _ (rl_ne (by omega))).trans x2
    have x4 := (g1 _ (rl_ne (by omega))).trans x4
    have x5 := (g1 _ (rl_ne (by omega))).trans x5
    refine w_inc3 (pc' := 47) dX6_init_44 rfl rfl ⟨by first | omega | (simp (decide := true) only [au_1, nu_2, au_lt, nu_lt, aw_e, nw_e, au_s, au_n, nu_s, nu_n, au_au, nu_nu, au_nu]; omega), by first | omega | (simp (decide := true) only [au_1, nu_2, au_lt, nu_lt, aw_e, nw_e, au_s, au_n, nu_s, nu_n, au_au, nu_nu, au_nu]; omega)⟩ ?_
    refine w_goto (tgt := 32) dX6_init_47 rfl ?_
    -- at 32: .iload_n 3
    refine ih (by omega) G9 _ (rfr_t x1 (rfr_s (by omega) g1)) x2 y1 x4 x5 ?_
    intro j j0 j1
    unfold iset
    split
    · rfl
    · exact x6 j j0 (by omega)
theorem c_X6_init_2 {q q0 len off : Int} {C : Int → Int} (hO : G (rO q) = some (xob 5 [xN, xN, xN, xI 0])) (h15 : G (rK q) = none) (h16 : G (rM q) = none) (h17 : G (rS q) = none) (hR : row G q0 len off C) (hl : len ≤ 60) (hq : q ≠ q0)
    (h : ∀ G', rfr q G G' → row G' q len off C → K none G') : tvW mX6_init_2 (d + 1) K 0 [some (xR (rO q)), some (xR (rO q0))] [] G 3 180 := by
  obtain ⟨bO, n, fk, fm, fs, hn, ak, am, as, hc⟩ := hR
  refine w_less (bc' := 0 + 1 + 1 + 1) (bs' := 0 + n + n + n) (by omega) (by omega) ?_
  refine w_aload_n (pc' := 1) dX6_init_2_0 rfl rfl ?_
  -- at 1: .invokespecial 3
  refine w_objI (pc' := 4) dX6_init_2_1 rfl q430 q110 q111 (Nat.le_of_ble_eq_true rfl) ?_
  refine w_aload_n (pc' := 5) dX6_init_2_4 rfl rfl ?_
  refine w_aload_n (pc' := 6) dX6_init_2_5 rfl rfl ?_
  refine w_get 0 (pc' := 9) dX6_init_2_6 rfl fX6_9_5 bO rfl ?_
  -- at 9: .invokevirtual 26
  refine w_clone (rK q) (pc' := 12) dX6_init_2_9 rfl (Or.inl ⟨rfl, rfl⟩) q504 ak h15 (by simp) (Nat.le_of_ble_eq_true rfl) ?_
  refine w_upd (fun G1 a1 f1 => ?_)
  have hO := (f1 _ (rl_ne (by omega))).trans hO
  have bO := (f1 _ (rl_ne (by omega))).trans bO
  have am := (f1 _ (rl_ne (by omega))).trans am
  have as := (f1 _ (rl_ne (by omega))).trans as
  have h16 := (f1 _ (rl_ne (by omega))).trans h16
  have h17 := (f1 _ (rl_ne (by omega))).trans h17
  refine w_castA (pc' := 15) dX6_init_2_12 rfl a1 rfl q510 ?_
  -- at 15: .putfield 9
  refine w_put 0 (pc' := 18) dX6_init_2_15 rfl pX6_9_5 (by decide) hO (Nat.le_of_ble_eq_true rfl) trivial ?_
  -- at 18: .aload_n 0
  refine w_upd (fun G2 a2 f2 => ?_)
  have a1 := (f2 _ (rl_ne (by omega))).trans a1
  have bO := (f2 _ (rl_ne (by omega))).trans bO
  have am := (f2 _ (rl_ne (by omega))).trans am
  have as := (f2 _ (rl_ne (by omega))).trans as
  have h16 := (f2 _ (rl_ne (by omega))).trans h16
  have h17 := (f2 _ (rl_ne (by omega))).trans h17
  refine w_aload_n (pc' := 19) dX6_init_2_18 rfl rfl ?_
  refine w_aload_n (pc' := 20) dX6_init_2_19 rfl rfl ?_
  refine w_get 1 (pc' := 23) dX6_init_2_20 rfl fX6_15_5 bO rfl ?_
  -- at 23: .invokevirtual 26
  refine w_clone (rM q) (pc' := 26) dX6_init_2_23 rfl (Or.inl ⟨rfl, rfl⟩) q504 am h16 (by simp) (Nat.le_of_ble_eq_true rfl) ?_
  refine w_upd (fun G3 a3 f3 => ?_)
  have a1 := (f3 _ (rl_ne (by omega))).trans a1
  have a2 := (f3 _ (rl_ne (by omega))).trans a2
  have bO := (f3 _ (rl_ne (by omega))).trans bO
  have as := (f3 _ (rl_ne (by omega))).trans as
  have h17 := (f3 _ (rl_ne (by omega))).trans h17
  refine w_castA (pc' := 29) dX6_init_2_26 rfl a3 rfl q510 ?_
  -- at 29: .putfield 15
  refine w_put 1 (pc' := 32) dX6_init_2_29 rfl pX6_15_5 (by decide) a2 (Nat.le_of_ble_eq_true rfl) trivial ?_
  -- at 32: .aload_n 0
  refine w_upd (fun G4 a4 f4 => ?_)
  have a1 := (f4 _ (rl_ne (by omega))).trans a1
  have a3 := (f4 _ (rl_ne (by omega))).trans a3
  have bO := (f4 _ (rl_ne (by omega))).trans bO
  have as := (f4 _ (rl_ne (by omega))).trans as
  have h17 := (f4 _ (rl_ne (by omega))).trans h17
  refine w_aload_n (pc' := 33) dX6_init_2_32 rfl rfl ?_
  refine w_aload_n (pc' := 34) dX6_init_2_33 rfl rfl ?_
  refine w_get 2 (pc' := 37) dX6_init_2_34 rfl fX6_18_5 bO rfl ?_
  -- at 37: .invokevirtual 31
  refine w_clone (rS q) (pc' := 40) dX6_init_2_37 rfl (Or.inr ⟨rfl, rfl⟩) q511 as h17 (by simp) (Nat.le_of_ble_eq_true rfl) ?_
  refine w_upd (fun G5 a5 f5 => ?_)
  have a1 := (f5 _ (rl_ne (by omega))).trans a1
  have a3 := (f5 _ (rl_ne (by omega))).trans a3
  have a4 := (f5 _ (rl_ne (by omega))).trans a4
  have bO := (f5 _ (rl_ne (by omega))).trans bO
  refine w_castA (pc' := 43) dX6_init_2_40 rfl a5 rfl q515 ?_
  -- at 43: .putfield 18
  refine w_put 2 (pc' := 46) dX6_init_2_43 rfl pX6_18_5 (by decide) a4 (Nat.le_of_ble_eq_true rfl) trivial ?_
  -- at 46: .aload_n 0
  refine w_upd (fun G6 a6 f6 => ?_)
  have a1 := (f6 _ (rl_ne (by omega))).trans a1
  have a3 := (f6 _ (rl_ne (by omega))).trans a3
  have a5 := (f6 _ (rl_ne (by omega))).trans a5
  have bO := (f6 _ (rl_ne (by omega))).trans bO
  refine w_aload_n (pc' := 47) dX6_init_2_46 rfl rfl ?_
  refine w_aload_n (pc' := 48) dX6_init_2_47 rfl rfl ?_
  refine w_get 3 (pc' := 51) dX6_init_2_48 rfl fX6_22_5 bO rfl ?_
  refine w_put 3 (pc' := 54) dX6_init_2_51 rfl pX6_22_5 (by decide) a6 (Nat.le_of_ble_eq_true rfl) trivial ?_
  -- at 54: .return_
  refine w_upd (fun G7 a7 f7 => ?_)
  have a1 := (f7 _ (rl_ne (by omega))).trans a1
  have a3 := (f7 _ (rl_ne (by omega))).trans a3
  have a5 := (f7 _ (rl_ne (by omega))).trans a5
  refine w_return dX6_init_2_54 rfl ?_
  exact h G7 (rfr_t (rfr_s (by omega) f1) (rfr_t (rfr_s (by omega) f2) (rfr_t (rfr_s (by omega) f3) (rfr_t (rfr_s (by omega) f4) (rfr_t (rfr_s (by omega) f5) (rfr_t (rfr_s (by omega) f6) (rfr_s (by omega) f7))))))) ⟨a7, n, fk, fm, fs, hn, a1, a3, a5, hc⟩
end
