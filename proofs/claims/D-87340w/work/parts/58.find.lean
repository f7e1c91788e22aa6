set_option maxRecDepth 10000
section
variable {d : Nat} {K : Option XV → GH → Prop} {G0 G : GH} {bc bs : Nat} {σ : MS} {w : RW}
theorem c_X0_lies {p q i x m : Int} (hw : Rx σ w G) (hK : kok σ) (hR : rok σ) (hP : pok σ) (hp : 0 ≤ p ∧ p < σ.1 12) (hq : 0 ≤ q ∧ q < σ.1 12) (hf : full σ q) (hm : 0 ≤ m ∧ m < 8) (i0 : 0 ≤ i) (i1 : i < σ.2 11 p) (x0 : 0 ≤ x ∧ x ≤ 60) (h1 : fnd σ p q i ((σ.2 7 (rw_ σ p i)) + x) m → K (some (xI 1)) G) (h0 : ¬ fnd σ p q i ((σ.2 7 (rw_ σ p i)) + x) m → K (some (xI 0)) G) : tvW mX0_lies (d + 5) K 0 [some (xR oR), some (xR (pO p)), some (xI i), some (xI x), some (xR (pO q)), some (xI m), none, none, none, none, none, none] [] G bc bs := by
  obtain ⟨hPo, -⟩ := hw.2.2.2.1.2 p hp.1 hp.2
  have hpr := Rx_prw hw hR hP hp.1 hp.2
  obtain ⟨lf, hl⟩ := lst_o hpr.1
  have hof := hw.1
  unfold off at hof
  have hfw := full_wd hR hP hq hf
  have hpm := (hP.2 p hp.1 hp.2).1
  have hqm := (hP.2 q hq.1 hq.2).1
  obtain ⟨-, li, oi, -, -, -⟩ := prow hR hP hp i0 i1
  have hHW : (1 ≤ (mvR m (σ.2 11 q) (wd σ q)) ∧ (mvR m (σ.2 11 q) (wd σ q)) ≤ 60) ∧ 1 ≤ (mvC m (σ.2 11 q) (wd σ q)) ∧ (mvC m (σ.2 11 q) (wd σ q)) ≤ 60 := by
    unfold mvR mvC
    split <;> omega
  have hri := (hpr.2 i i0 i1).1
  refine w_aload (pc' := 2) dX0_lies_0 rfl rfl ?_
  refine w_iload (pc' := 4) dX0_lies_2 rfl rfl ?_
  -- at 4: .invokestatic 312
  refine w_callS2 (pc' := 7) (mc := 0) (ms := 0) dX0_lies_4 rfl tX0_high q836 q835 rfl (Nat.le_of_ble_eq_true rfl) (Nat.le_of_ble_eq_true rfl) ?_
  refine c_X0_high hw hR hP hq (by omega) ?_
  refine w_p1 ?_
  refine w_ist6 (pc' := 9) dX0_lies_7 rfl rfl ?_
  refine w_aload (pc' := 11) dX0_lies_9 rfl rfl ?_
  refine w_iload (pc' := 13) dX0_lies_11 rfl rfl ?_
  -- at 13: .invokestatic 316
  refine w_callS2 (pc' := 16) (mc := 0) (ms := 0) dX0_lies_13 rfl tX0_wide q843 q842 rfl (Nat.le_of_ble_eq_true rfl) (Nat.le_of_ble_eq_true rfl) ?_
  refine c_X0_wide hw hR hP hq (by omega) ?_
  refine w_p1 ?_
  refine w_ist7 (pc' := 18) dX0_lies_16 rfl rfl ?_
  refine w_iload_n (pc' := 19) dX0_lies_18 rfl rfl ?_
  refine w_iload (pc' := 21) dX0_lies_19 rfl rfl ?_
  refine w_iadd (pc' := 22) dX0_lies_21 rfl ⟨by first | omega | (simp (decide := true) only [au_1, nu_2, au_lt, nu_lt, aw_e, nw_e, au_s, au_n, nu_s, nu_n, au_au, nu_nu, au_nu]; omega), by first | omega | (simp (decide := true) only [au_1, nu_2, au_lt, nu_lt, aw_e, nw_e, au_s, au_n, nu_s, nu_n, au_au, nu_nu, au_nu]; omega)⟩ ?_
  refine w_aload_n (pc' := 23) dX0_lies_22 rfl rfl ?_
  refine w_get 0 (pc' := 26) dX0_lies_23 rfl fX0_140_3 hPo rfl ?_
  -- at 26: .invokevirtual 54
  refine w_callV0 (pc' := 29) (mc := 0) (ms := 0) dX0_lies_26 rfl tJ2_size q207 rfl rfl q208 q206 hl rfl (Nat.le_of_ble_eq_true rfl) (Nat.le_of_ble_eq_true rfl) ?_
  refine c_J2_size hpr.1 ?_
  refine w_p1 ?_
  refine w_icmp_le (pc' := 32) (tgt := 34) dX0_lies_29 rfl rfl (fun g => ?_) (fun g => ?_)
  · refine w_iconst (pc' := 35) dX0_lies_34 rfl (by decide) ?_
    refine w_ist8 (pc' := 37) dX0_lies_35 rfl rfl ?_
    -- at 37: .iload 8
    refine up (T := fun y => ∀ u v t : Option XV, (∀ a b, 0 ≤ a → a < y → 0 ≤ b → b < (mvC m (σ.2 11 q) (wd σ q)) → hs_ σ p (i + a) ((σ.2 7 (rw_ σ p i)) + x + b) ∧ ca_ σ p (i + a) ((σ.2 7 (rw_ σ p i)) + x + b) = mcl σ q m a b) → tvW mX0_lies (d + 5) K 37 [some (xR oR), some (xR (pO p)), some (xI i), some (xI x), some (xR (pO q)), some (xI m), some (xI (mvR m (σ.2 11 q) (wd σ q))), some (xI (mvC m (σ.2 11 q) (wd σ q))), some (xI y), u, v, t] [] G bc bs) (mvR m (σ.2 11 q) (wd σ q)) (by omega) (fun u v t hn => ?_) (fun y y0 y1 ih u v t hn => ?_) _ _ _ (fun a b q1 q2 => by omega)
    · refine w_iload (pc' := 39) dX0_lies_37 rfl rfl ?_
      refine w_iload (pc' := 41) dX0_lies_39 rfl rfl ?_
      -- at 41: .if_icmp .ge 110
      refine w_icmp_ge (pc' := 44) (tgt := 151) dX0_lies_41 rfl rfl (fun h_ => ?_) (fun h_ => False.elim (by first | omega | (simp (decide := true) only [au_1, nu_2, au_lt, nu_lt, aw_e, nw_e, au_s, au_n, nu_s, nu_n, au_au, nu_nu, au_nu] at h_; omega)))
      refine w_iconst (pc' := 152) dX0_lies_151 rfl (by decide) ?_
      -- at 152: .ireturn
      refine w_zreturn dX0_lies_152 rfl (by first | exact Or.inl rfl | exact Or.inr rfl | omega) ?_
      exact h1 (fun a b a0 a1 b0 b1 => hn a b a0 a1 b0 b1)
    · have hy1 : i + y < σ.2 11 p := by omega
      obtain ⟨-, ly, oy, -, -, b6⟩ := prow hR hP hp (show 0 ≤ i + y by omega) hy1
      have hrb := (hpr.2 (i + y) (by omega) hy1).1
      have hrb0 := hrb
      obtain ⟨hrob, nb, fkb, fmb, fsb, hnnb, akb, -⟩ := hrb0
      have hnnb : (nb : Int) = (σ.2 6 (rw_ σ p (i + y))) := hnnb
      have hrob : G (rO (rw_ σ p (i + y))) = some (xob 5 [xR (rK (rw_ σ p (i + y))), xR (rM (rw_ σ p (i + y))), xR (rS (rw_ σ p (i + y))), xI (σ.2 7 (rw_ σ p (i + y)))]) := hrob
      have hro : G (rO (rw_ σ p i)) = some (xob 5 [xR (rK (rw_ σ p i)), xR (rM (rw_ σ p i)), xR (rS (rw_ σ p i)), xI (σ.2 7 (rw_ σ p i))]) := hri.1
      have no : ¬ fnd σ p q i ((σ.2 7 (rw_ σ p i)) + x) m → ∀ u v t, tvW mX0_lies (d + 5) K 103 [some (xR oR), some (xR (pO p)), some (xI i), some (xI x), some (xR (pO q)), some (xI m), some (xI (mvR m (σ.2 11 q) (wd σ q))), some (xI (mvC m (σ.2 11 q) (wd σ q))), some (xI y), u, v, t] [] G bc bs := by
        intro z u v t
        refine w_iconst (pc' := 104) dX0_lies_103 rfl (by decide) ?_
        -- at 104: .ireturn
        refine w_zreturn dX0_lies_104 rfl (by first | exact Or.inl rfl | exact Or.inr rfl | omega) ?_
        exact h0 z
      refine w_iload (pc' := 39) dX0_lies_37 rfl rfl ?_
      refine w_iload (pc' := 41) dX0_lies_39 rfl rfl ?_
      -- at 41: .if_icmp .ge 110
      refine w_icmp_ge (pc' := 44) (tgt := 151) dX0_lies_41 rfl rfl (fun h_ => False.elim (by first | omega | (simp (decide := true) only [au_1, nu_2, au_lt, nu_lt, aw_e, nw_e, au_s, au_n, nu_s, nu_n, au_au, nu_nu, au_nu] at h_; omega))) (fun h_ => ?_)
      refine w_aload_n (pc' := 45) dX0_lies_44 rfl rfl ?_
      refine w_get 0 (pc' := 48) dX0_lies_45 rfl fX0_140_3 hPo rfl ?_
      refine w_iload_n (pc' := 49) dX0_lies_48 rfl rfl ?_
      refine w_iload (pc' := 51) dX0_lies_49 rfl rfl ?_
      refine w_iadd (pc' := 52) dX0_lies_51 rfl ⟨by first | omega | (simp (decide := true) only [au_1, nu_2, au_lt, nu_lt, aw_e, nw_e, au_s, au_n, nu_s, nu_n, au_au, nu_nu, au_nu]; omega), by first | omega | (simp (decide := true) only [au_1, nu_2, au_lt, nu_lt, aw_e, nw_e, au_s, au_n, nu_s, nu_n, au_au, nu_nu, au_nu]; omega)⟩ ?_
      -- at 52: .invokevirtual 58
      refine w_callV1 (pc' := 55) (mc := 0) (ms := 0) dX0_lies_52 rfl tJ2_get q211 rfl rfl q212 q210 hl rfl (Nat.le_of_ble_eq_true rfl) (Nat.le_of_ble_eq_true rfl) ?_
      refine c_J2_get hpr.1 ⟨by omega, hy1⟩ ?_
      refine w_p1 ?_
      refine w_cast (pc' := 58) dX0_lies_55 rfl hrob rfl q425 ?_
      refine w_ast9 (pc' := 60) dX0_lies_58 rfl rfl ?_
      refine w_aload_n (pc' := 61) dX0_lies_60 rfl rfl ?_
      refine w_get 0 (pc' := 64) dX0_lies_61 rfl fX0_140_3 hPo rfl ?_
      refine w_iload_n (pc' := 65) dX0_lies_64 rfl rfl ?_
      -- at 65: .invokevirtual 58
      refine w_callV1 (pc' := 68) (mc := 0) (ms := 0) dX0_lies_65 rfl tJ2_get q211 rfl rfl q212 q210 hl rfl (Nat.le_of_ble_eq_true rfl) (Nat.le_of_ble_eq_true rfl) ?_
      refine c_J2_get hpr.1 ⟨i0, i1⟩ ?_
      refine w_p1 ?_
      refine w_cast (pc' := 71) dX0_lies_68 rfl hro rfl q425 ?_
      refine w_get 3 (pc' := 74) dX0_lies_71 rfl fX0_181_5 hro rfl ?_
      refine w_iload_n (pc' := 75) dX0_lies_74 rfl rfl ?_
      refine w_iadd (pc' := 76) dX0_lies_75 rfl ⟨by first | omega | (simp (decide := true) only [au_1, nu_2, au_lt, nu_lt, aw_e, nw_e, au_s, au_n, nu_s, nu_n, au_au, nu_nu, au_nu]; omega), by first | omega | (simp (decide := true) only [au_1, nu_2, au_lt, nu_lt, aw_e, nw_e, au_s, au_n, nu_s, nu_n, au_au, nu_nu, au_nu]; omega)⟩ ?_
      refine w_aload (pc' := 78) dX0_lies_76 rfl rfl ?_
      refine w_get 3 (pc' := 81) dX0_lies_78 rfl fX0_181_5 hrob rfl ?_
      refine w_isub (pc' := 82) dX0_lies_81 rfl ⟨by first | omega | (simp (decide := true) only [au_1, nu_2, au_lt, nu_lt, aw_e, nw_e, au_s, au_n, nu_s, nu_n, au_au, nu_nu, au_nu]; omega), by first | omega | (simp (decide := true) only [au_1, nu_2, au_lt, nu_lt, aw_e, nw_e, au_s, au_n, nu_s, nu_n, au_au, nu_nu, au_nu]; omega)⟩ ?_
      refine w_ist10 (pc' := 84) dX0_lies_82 rfl rfl ?_
      refine w_iload (pc' := 86) dX0_lies_84 rfl rfl ?_
      -- at 86: .ifCond .lt 17
      refine w_if_lt (pc' := 89) (tgt := 103) dX0_lies_86 rfl rfl (fun g2 => ?_) (fun g2 => ?_)
      · refine no (fun z => ?_) _ _ _
        have := (hs_iff.mp (z y 0 y0 y1 (by omega) (by omega)).1).2
        omega
      · refine w_iload (pc' := 91) dX0_lies_89 rfl rfl ?_
        refine w_iload (pc' := 93) dX0_lies_91 rfl rfl ?_
        refine w_iadd (pc' := 94) dX0_lies_93 rfl ⟨by first | omega | (simp (decide := true) only [au_1, nu_2, au_lt, nu_lt, aw_e, nw_e, au_s, au_n, nu_s, nu_n, au_au, nu_nu, au_nu]; omega), by first | omega | (simp (decide := true) only [au_1, nu_2, au_lt, nu_lt, aw_e, nw_e, au_s, au_n, nu_s, nu_n, au_au, nu_nu, au_nu]; omega)⟩ ?_
        refine w_aload (pc' := 96) dX0_lies_94 rfl rfl ?_
        refine w_get 0 (pc' := 99) dX0_lies_96 rfl fX0_187_5 hrob rfl ?_
        refine w_alen (pc' := 100) dX0_lies_99 rfl akb ?_
        -- at 100: .if_icmp .le 5
        rw [hnnb]
        refine w_icmp_le (pc' := 103) (tgt := 105) dX0_lies_100 rfl rfl (fun g3 => ?_) (fun g3 => ?_)
        · refine w_iconst (pc' := 106) dX0_lies_105 rfl (by decide) ?_
          refine w_ist11 (pc' := 108) dX0_lies_106 rfl rfl ?_
          -- at 108: .iload 11
          refine up (T := fun b => ∀ t : Option XV, True → (∀ b', 0 ≤ b' → b' < b → hs_ σ p (i + y) ((σ.2 7 (rw_ σ p i)) + x + b') ∧ ca_ σ p (i + y) ((σ.2 7 (rw_ σ p i)) + x + b') = mcl σ q m y b') → tvW mX0_lies (d + 5) K 108 [some (xR oR), some (xR (pO p)), some (xI i), some (xI x), some (xR (pO q)), some (xI m), some (xI (mvR m (σ.2 11 q) (wd σ q))), some (xI (mvC m (σ.2 11 q) (wd σ q))), some (xI y), some (xR (rO (rw_ σ p (i + y)))), some (xI ((σ.2 7 (rw_ σ p i)) + x - (σ.2 7 (rw_ σ p (i + y))))), some (xI b)] [] G bc bs) (mvC m (σ.2 11 q) (wd σ q)) (by omega) (fun t _ hb => ?_) (fun b b0 b1 ihb t _ hb => ?_) none trivial (fun b' q1 q2 => by omega)
          · refine w_iload (pc' := 110) dX0_lies_108 rfl rfl ?_
            refine w_iload (pc' := 112) dX0_lies_110 rfl rfl ?_
            -- at 112: .if_icmp .ge 33
            refine w_icmp_ge (pc' := 115) (tgt := 145) dX0_lies_112 rfl rfl (fun h_ => ?_) (fun h_ => False.elim (by first | omega | (simp (decide := true) only [au_1, nu_2, au_lt, nu_lt, aw_e, nw_e, au_s, au_n, nu_s, nu_n, au_au, nu_nu, au_nu] at h_; omega)))
            refine w_inc8 (pc' := 148) dX0_lies_145 rfl rfl ⟨by first | omega | (simp (decide := true) only [au_1, nu_2, au_lt, nu_lt, aw_e, nw_e, au_s, au_n, nu_s, nu_n, au_au, nu_nu, au_nu]; omega), by first | omega | (simp (decide := true) only [au_1, nu_2, au_lt, nu_lt, aw_e, nw_e, au_s, au_n, nu_s, nu_n, au_au, nu_nu, au_nu]; omega)⟩ ?_
            refine w_goto (tgt := 37) dX0_lies_148 rfl ?_
            -- at 37: .iload 8
            refine ih _ _ _ (fun a b a0 a1 b0 b1 => ?_)
            by_cases e : a = y
            · rw [e]; exact hb b b0 b1
            · exact hn a b a0 (by omega) b0 b1
          · have hs : hs_ σ p (i + y) ((σ.2 7 (rw_ σ p i)) + x + b) := hs_iff.mpr ⟨⟨by omega, hy1⟩, by omega, by omega⟩
            have ec : ca_ σ p (i + y) ((σ.2 7 (rw_ σ p i)) + x + b) = (σ.2 8 (60 * rw_ σ p (i + y) + ((σ.2 7 (rw_ σ p i)) + x - (σ.2 7 (rw_ σ p (i + y))) + b))) := by
              unfold ca_
              rw [show 60 * rw_ σ p (i + y) + ((σ.2 7 (rw_ σ p i)) + x + b) - (σ.2 7 (rw_ σ p (i + y))) = 60 * rw_ σ p (i + y) + ((σ.2 7 (rw_ σ p i)) + x - (σ.2 7 (rw_ σ p (i + y))) + b) by omega]
            refine w_iload (pc' := 110) dX0_lies_108 rfl rfl ?_
            refine w_iload (pc' := 112) dX0_lies_110 rfl rfl ?_
            -- at 112: .if_icmp .ge 33
            refine w_icmp_ge (pc' := 115) (tgt := 145) dX0_lies_112 rfl rfl (fun h_ => False.elim (by first | omega | (simp (decide := true) only [au_1, nu_2, au_lt, nu_lt, aw_e, nw_e, au_s, au_n, nu_s, nu_n, au_au, nu_nu, au_nu] at h_; omega))) (fun h_ => ?_)
            refine w_aload_n (pc' := 116) dX0_lies_115 rfl rfl ?_
            refine w_aload (pc' := 118) dX0_lies_116 rfl rfl ?_
            refine w_iload (pc' := 120) dX0_lies_118 rfl rfl ?_
            refine w_iload (pc' := 122) dX0_lies_120 rfl rfl ?_
            refine w_iload (pc' := 124) dX0_lies_122 rfl rfl ?_
            refine w_aload (pc' := 126) dX0_lies_124 rfl rfl ?_
            refine w_iload (pc' := 128) dX0_lies_126 rfl rfl ?_
            refine w_iload (pc' := 130) dX0_lies_128 rfl rfl ?_
            refine w_iadd (pc' := 131) dX0_lies_130 rfl ⟨by first | omega | (simp (decide := true) only [au_1, nu_2, au_lt, nu_lt, aw_e, nw_e, au_s, au_n, nu_s, nu_n, au_au, nu_nu, au_nu]; omega), by first | omega | (simp (decide := true) only [au_1, nu_2, au_lt, nu_lt, aw_e, nw_e, au_s, au_n, nu_s, nu_n, au_au, nu_nu, au_nu]; omega)⟩ ?_
            -- at 131: .invokevirtual 319
            refine w_callV6 (pc' := 134) (mc := 0) (ms := 0) dX0_lies_131 rfl tX0_isMoved_2 q847 rfl rfl qs22 q845 hof rfl (Nat.le_of_ble_eq_true rfl) (Nat.le_of_ble_eq_true rfl) ?_
            refine c_X0_isMoved_2 hw hK hR hP hq hf hm ⟨y0, y1⟩ ⟨b0, b1⟩ hrb (by omega) (by simp only []; omega) (b6 _ (by omega) (by omega)) (fun z => w_p1 ?_) (fun z => w_p1 ?_)
            · refine w_if_ne (pc' := 137) (tgt := 139) dX0_lies_134 rfl rfl (fun h_ => ?_) (fun h_ => False.elim (by first | omega | (simp (decide := true) only [au_1, nu_2, au_lt, nu_lt, aw_e, nw_e, au_s, au_n, nu_s, nu_n, au_au, nu_nu, au_nu] at h_; omega)))
              refine w_inc11 (pc' := 142) dX0_lies_139 rfl rfl ⟨by first | omega | (simp (decide := true) only [au_1, nu_2, au_lt, nu_lt, aw_e, nw_e, au_s, au_n, nu_s, nu_n, au_au, nu_nu, au_nu]; omega), by first | omega | (simp (decide := true) only [au_1, nu_2, au_lt, nu_lt, aw_e, nw_e, au_s, au_n, nu_s, nu_n, au_au, nu_nu, au_nu]; omega)⟩ ?_
              refine w_goto (tgt := 108) dX0_lies_142 rfl ?_
              -- at 108: .iload 11
              refine ihb none trivial (fun b' q1 q2 => ?_)
              by_cases e : b' = b
              · rw [e]; exact ⟨hs, ec.trans z.symm⟩
              · exact hb b' q1 (by omega)
            · refine w_if_ne (pc' := 137) (tgt := 139) dX0_lies_134 rfl rfl (fun h_ => False.elim (by first | omega | (simp (decide := true) only [au_1, nu_2, au_lt, nu_lt, aw_e, nw_e, au_s, au_n, nu_s, nu_n, au_au, nu_nu, au_nu] at h_; omega))) (fun h_ => ?_)
              refine w_iconst (pc' := 138) dX0_lies_137 rfl (by decide) ?_
              -- at 138: .ireturn
              refine w_zreturn dX0_lies_138 rfl (by first | exact Or.inl rfl | exact Or.inr rfl | omega) ?_
              exact h0 (fun q' => z ((ec.symm.trans (q' y b y0 y1 b0 b1).2).symm))
        · refine no (fun z => ?_) _ _ _
          have := (hs_iff.mp (z y ((mvC m (σ.2 11 q) (wd σ q)) - 1) y0 y1 (by omega) (by omega)).1).2
          omega
  · refine w_iconst (pc' := 33) dX0_lies_32 rfl (by decide) ?_
    -- at 33: .ireturn
    refine w_zreturn dX0_lies_33 rfl (by first | exact Or.inl rfl | exact Or.inr rfl | omega) ?_
    refine h0 (fun z => ?_)
    have := (z ((mvR m (σ.2 11 q) (wd σ q)) - 1) 0 (by omega) (by omega) (by omega) (by omega)).1.2.1
    omega
theorem c_X0_find {p q k : Int} (hw : Rx σ w G) (hK : kok σ) (hR : rok σ) (hP : pok σ) (h : K (some (xI (aFind σ p q k))) G) : tvW mX0_find (d + 6) K 0 [some (xR oR), some (xI p), some (xI q), some (xI k), none, none, none, none, none, none] [] G bc bs := by
  have hof := hw.1
  unfold off at hof
  unfold aFind at h
  have bad : ∀ o o', ¬ ((0 ≤ p ∧ p < σ.1 12) ∧ (0 ≤ q ∧ q < σ.1 12) ∧ full σ q ∧ 0 ≤ k) → tvW mX0_find (d + 6) K 36 [some (xR oR), some (xI p), some (xI q), some (xI k), some (xO o), some (xO o'), none, none, none, none] [] G bc bs := by
    intro o o' z
    rw [ic_f z] at h
    refine w_iconst (pc' := 37) dX0_find_36 rfl (by decide) ?_
    -- at 37: .ireturn
    refine w_ireturn dX0_find_37 rfl ?_
    exact h
  refine w_aload_n (pc' := 1) dX0_find_0 rfl rfl ?_
  refine w_iload_n (pc' := 2) dX0_find_1 rfl rfl ?_
  -- at 2: .invokevirtual 150
  refine w_callV1 (pc' := 5) (mc := 0) (ms := 0) dX0_find_2 rfl tX0_pattern_2 q375 rfl rfl qs4 q373 hof rfl (Nat.le_of_ble_eq_true rfl) (Nat.le_of_ble_eq_true rfl) ?_
  refine c_X0_pattern_2 hw (fun p0 p1 => w_p1 ?_) (fun g => w_p1 ?_)
  · obtain ⟨hPo, -⟩ := hw.2.2.2.1.2 p p0 p1
    have hpr := Rx_prw hw hR hP p0 p1
    obtain ⟨lf, hl⟩ := lst_o hpr.1
    refine w_ast4 (pc' := 7) dX0_find_5 rfl rfl ?_
    refine w_aload_n (pc' := 8) dX0_find_7 rfl rfl ?_
    refine w_iload_n (pc' := 9) dX0_find_8 rfl rfl ?_
    -- at 9: .invokevirtual 150
    refine w_callV1 (pc' := 12) (mc := 0) (ms := 0) dX0_find_9 rfl tX0_pattern_2 q375 rfl rfl qs4 q373 hof rfl (Nat.le_of_ble_eq_true rfl) (Nat.le_of_ble_eq_true rfl) ?_
    refine c_X0_pattern_2 hw (fun q0 q1 => w_p1 ?_) (fun g => w_p1 ?_)
    · obtain ⟨hQo, -⟩ := hw.2.2.2.1.2 q q0 q1
      have hqr := Rx_prw hw hR hP q0 q1
      refine w_ast5 (pc' := 14) dX0_find_12 rfl rfl ?_
      refine w_aload (pc' := 16) dX0_find_14 rfl rfl ?_
      -- at 16: .ifnull 20
      refine w_ifnull (pc' := 19) (tgt := 36) dX0_find_16 rfl rfl (fun h_ => False.elim (nomatch h_)) (fun h_ => ?_)
      refine w_aload (pc' := 21) dX0_find_19 rfl rfl ?_
      -- at 21: .ifnull 15
      refine w_ifnull (pc' := 24) (tgt := 36) dX0_find_21 rfl rfl (fun h_ => False.elim (nomatch h_)) (fun h_ => ?_)
      refine w_aload (pc' := 26) dX0_find_24 rfl rfl ?_
      -- at 26: .invokevirtual 323
      refine w_callV0 (pc' := 29) (mc := 0) (ms := 0) dX0_find_26 rfl tX4_isFull q824 rfl rfl q825 q823 hQo rfl (Nat.le_of_ble_eq_true rfl) (Nat.le_of_ble_eq_true rfl) ?_
      refine c_X4_isFull hQo hqr (fun hf => w_p1 ?_) (fun hf => w_p1 ?_)
      · have hf : full σ q := hf
        have hp : 0 ≤ p ∧ p < σ.1 12 := ⟨p0, p1⟩
        have hq : 0 ≤ q ∧ q < σ.1 12 := ⟨q0, q1⟩
        refine w_if_eq (pc' := 32) (tgt := 36) dX0_find_29 rfl rfl (fun h_ => False.elim (by first | omega | (simp (decide := true) only [au_1, nu_2, au_lt, nu_lt, aw_e, nw_e, au_s, au_n, nu_s, nu_n, au_au, nu_nu, au_nu] at h_; omega))) (fun h_ => ?_)
        refine w_iload_n (pc' := 33) dX0_find_32 rfl rfl ?_
        -- at 33: .ifCond .ge 5
        refine w_if_ge (pc' := 36) (tgt := 38) dX0_find_33 rfl rfl (fun gk => ?_) (fun gk => ?_)
        · rw [ic_t ⟨hp, hq, hf, gk⟩] at h
          have hM := (hP.2 p hp.1 hp.2).1
          have hp1 := hP.1
          refine w_iconst (pc' := 39) dX0_find_38 rfl (by decide) ?_
          refine w_ist6 (pc' := 41) dX0_find_39 rfl rfl ?_
          refine w_iconst (pc' := 42) dX0_find_41 rfl (by decide) ?_
          refine w_ist7 (pc' := 44) dX0_find_42 rfl rfl ?_
          -- at 44: .iload 7
          refine w_L (L' := [some (xR oR), some (xI p), some (xI q), some (xI k), some (xR (pO p)), some (xR (pO q)), some (xI (nFnd σ p q 0 0)), some (xI 0), none, none]) rfl ?_
          refine up (T := fun i => ∀ x8 x9 : Option XV, (∀ i', 0 ≤ i' → i' < i → ∀ t, 0 ≤ t → t < 8 * (σ.2 6 (rw_ σ p i')) → ¬ (fun i t => fnd σ p q i ((σ.2 7 (rw_ σ p i)) + t / 8) (t % 8) ∧ nFnd σ p q i t = k) i' t) → tvW mX0_find (d + 6) K 44 [some (xR oR), some (xI p), some (xI q), some (xI k), some (xR (pO p)), some (xR (pO q)), some (xI (nFnd σ p q i 0)), some (xI i), x8, x9] [] G bc bs) (σ.2 11 p) hM.1 (fun x8 x9 hn => ?_) (fun i i0 i1 ih x8 x9 hn => ?_) _ _ (fun i' a b => by omega)
          · rw [fi2_no hn] at h
            refine w_iload (pc' := 46) dX0_find_44 rfl rfl ?_
            refine w_aload (pc' := 48) dX0_find_46 rfl rfl ?_
            refine w_get 0 (pc' := 51) dX0_find_48 rfl fX0_140_3 hPo rfl ?_
            -- at 51: .invokevirtual 54
            refine w_callV0 (pc' := 54) (mc := 0) (ms := 0) dX0_find_51 rfl tJ2_size q207 rfl rfl q208 q206 hl rfl (Nat.le_of_ble_eq_true rfl) (Nat.le_of_ble_eq_true rfl) ?_
            refine c_J2_size hpr.1 ?_
            refine w_p1 ?_
            refine w_icmp_ge (pc' := 57) (tgt := 155) dX0_find_54 rfl rfl (fun h_ => ?_) (fun h_ => False.elim (by first | omega | (simp (decide := true) only [au_1, nu_2, au_lt, nu_lt, aw_e, nw_e, au_s, au_n, nu_s, nu_n, au_au, nu_nu, au_nu] at h_; omega)))
            refine w_iconst (pc' := 156) dX0_find_155 rfl (by decide) ?_
            -- at 156: .ireturn
            refine w_ireturn dX0_find_156 rfl ?_
            exact h
          · obtain ⟨b1r, b2, b3, b4, b5, b6⟩ := prow hR hP hp i0 i1
            have hlr : ∀ i', 0 ≤ i' → i' < i → 0 ≤ (σ.2 6 (rw_ σ p i')) ∧ (σ.2 6 (rw_ σ p i')) ≤ 60 := fun i' q0 q1 => (prow hR hP hp q0 (show i' < σ.2 11 p by omega)).2.1
            have hri := (hpr.2 i i0 i1).1
            obtain ⟨hro, n0, fk, fm, fs, hnn, ak, -⟩ := hri
            have hnn : (n0 : Int) = (σ.2 6 (rw_ σ p i)) := hnn
            refine w_iload (pc' := 46) dX0_find_44 rfl rfl ?_
            refine w_aload (pc' := 48) dX0_find_46 rfl rfl ?_
            refine w_get 0 (pc' := 51) dX0_find_48 rfl fX0_140_3 hPo rfl ?_
            -- at 51: .invokevirtual 54
            refine w_callV0 (pc' := 54) (mc := 0) (ms := 0) dX0_find_51 rfl tJ2_size q207 rfl rfl q208 q206 hl rfl (Nat.le_of_ble_eq_true rfl) (Nat.le_of_ble_eq_true rfl) ?_
            refine c_J2_size hpr.1 ?_
            refine w_p1 ?_
            refine w_icmp_ge (pc' := 57) (tgt := 155) dX0_find_54 rfl rfl (fun h_ => False.elim (by first | omega | (simp (decide := true) only [au_1, nu_2, au_lt, nu_lt, aw_e, nw_e, au_s, au_n, nu_s, nu_n, au_au, nu_nu, au_nu] at h_; omega))) (fun h_ => ?_)
            refine w_iconst (pc' := 58) dX0_find_57 rfl (by decide) ?_
            refine w_ist8 (pc' := 60) dX0_find_58 rfl rfl ?_
            -- at 60: .iload 8
            refine w_L (L' := [some (xR oR), some (xI p), some (xI q), some (xI k), some (xR (pO p)), some (xR (pO q)), some (xI (nFnd σ p q i (8 * 0))), some (xI i), some (xI 0), x9]) rfl ?_
            refine up (T := fun n => ∀ x9, (∀ t, 0 ≤ t → t < 8 * n → ¬ (fun i t => fnd σ p q i ((σ.2 7 (rw_ σ p i)) + t / 8) (t % 8) ∧ nFnd σ p q i t = k) i t) → tvW mX0_find (d + 6) K 60 [some (xR oR), some (xI p), some (xI q), some (xI k), some (xR (pO p)), some (xR (pO q)), some (xI (nFnd σ p q i (8 * n))), some (xI i), some (xI n), x9] [] G bc bs) (σ.2 6 (rw_ σ p i)) b2.1 (fun x9 hk => ?_) (fun n n0 n1 ihn x9 hk => ?_) _ (fun k' a b => by omega)
            · refine w_iload (pc' := 62) dX0_find_60 rfl rfl ?_
              refine w_aload (pc' := 64) dX0_find_62 rfl rfl ?_
              refine w_get 0 (pc' := 67) dX0_find_64 rfl fX0_140_3 hPo rfl ?_
              refine w_iload (pc' := 69) dX0_find_67 rfl rfl ?_
              -- at 69: .invokevirtual 58
              refine w_callV1 (pc' := 72) (mc := 0) (ms := 0) dX0_find_69 rfl tJ2_get q211 rfl rfl q212 q210 hl rfl (Nat.le_of_ble_eq_true rfl) (Nat.le_of_ble_eq_true rfl) ?_
              refine c_J2_get hpr.1 ⟨i0, i1⟩ ?_
              refine w_p1 ?_
              refine w_cast (pc' := 75) dX0_find_72 rfl hro rfl q425 ?_
              refine w_get 0 (pc' := 78) dX0_find_75 rfl fX0_187_5 hro rfl ?_
              refine w_alen (pc' := 79) dX0_find_78 rfl ak ?_
              -- at 79: .if_icmp .ge 70
              rw [hnn]
              refine w_icmp_ge (pc' := 82) (tgt := 149) dX0_find_79 rfl rfl (fun h_ => ?_) (fun h_ => False.elim (by first | omega | (simp (decide := true) only [au_1, nu_2, au_lt, nu_lt, aw_e, nw_e, au_s, au_n, nu_s, nu_n, au_au, nu_nu, au_nu] at h_; omega)))
              refine w_inc7 (pc' := 152) dX0_find_149 rfl rfl ⟨by first | omega | (simp (decide := true) only [au_1, nu_2, au_lt, nu_lt, aw_e, nw_e, au_s, au_n, nu_s, nu_n, au_au, nu_nu, au_nu]; omega), by first | omega | (simp (decide := true) only [au_1, nu_2, au_lt, nu_lt, aw_e, nw_e, au_s, au_n, nu_s, nu_n, au_au, nu_nu, au_nu]; omega)⟩ ?_
              refine w_goto (tgt := 44) dX0_find_152 rfl ?_
              -- at 44: .iload 7
              have e : nFnd σ p q i (8 * (σ.2 6 (rw_ σ p i))) = nFnd σ p q (i + 1) 0 := by
                unfold nFnd
                rw [sm_s i0, sm_0, Int.add_zero]
              rw [e]
              refine ih _ _ (fun i' q0 q1 => ?_)
              by_cases e : i' = i
              · rw [e]; exact hk
              · exact hn i' q0 (by omega)
            · refine w_iload (pc' := 62) dX0_find_60 rfl rfl ?_
              refine w_aload (pc' := 64) dX0_find_62 rfl rfl ?_
              refine w_get 0 (pc' := 67) dX0_find_64 rfl fX0_140_3 hPo rfl ?_
              refine w_iload (pc' := 69) dX0_find_67 rfl rfl ?_
              -- at 69: .invokevirtual 58
              refine w_callV1 (pc' := 72) (mc := 0) (ms := 0) dX0_find_69 rfl tJ2_get q211 rfl rfl q212 q210 hl rfl (Nat.le_of_ble_eq_true rfl) (Nat.le_of_ble_eq_true rfl) ?_
              refine c_J2_get hpr.1 ⟨i0, i1⟩ ?_
              refine w_p1 ?_
              refine w_cast (pc' := 75) dX0_find_72 rfl hro rfl q425 ?_
              refine w_get 0 (pc' := 78) dX0_find_75 rfl fX0_187_5 hro rfl ?_
              refine w_alen (pc' := 79) dX0_find_78 rfl ak ?_
              -- at 79: .if_icmp .ge 70
              rw [hnn]
              refine w_icmp_ge (pc' := 82) (tgt := 149) dX0_find_79 rfl rfl (fun h_ => False.elim (by first | omega | (simp (decide := true) only [au_1, nu_2, au_lt, nu_lt, aw_e, nw_e, au_s, au_n, nu_s, nu_n, au_au, nu_nu, au_nu] at h_; omega))) (fun h_ => ?_)
              refine w_iconst (pc' := 83) dX0_find_82 rfl (by decide) ?_
              refine w_ist9 (pc' := 85) dX0_find_83 rfl rfl ?_
              -- at 85: .iload 9
              refine w_L (L' := [some (xR oR), some (xI p), some (xI q), some (xI k), some (xR (pO p)), some (xR (pO q)), some (xI (nFnd σ p q i (8 * n + 0))), some (xI i), some (xI n), some (xI 0)]) (by rw [Int.add_zero]) ?_
              refine up (T := fun m => (∀ t, 0 ≤ t → t < 8 * n + m → ¬ (fun i t => fnd σ p q i ((σ.2 7 (rw_ σ p i)) + t / 8) (t % 8) ∧ nFnd σ p q i t = k) i t) → tvW mX0_find (d + 6) K 85 [some (xR oR), some (xI p), some (xI q), some (xI k), some (xR (pO p)), some (xR (pO q)), some (xI (nFnd σ p q i (8 * n + m))), some (xI i), some (xI n), some (xI m)] [] G bc bs) (a := 0) 8 (by omega) (fun hm => ?_) (fun m m0 m1 ihm hm => ?_) (by rw [Int.add_zero]; exact hk)
              · refine w_iload (pc' := 87) dX0_find_85 rfl rfl ?_
                refine w_bipush (pc' := 89) dX0_find_87 rfl (by decide +kernel) (by decide) ?_
                -- at 89: .if_icmp .ge 54
                refine w_icmp_ge (pc' := 92) (tgt := 143) dX0_find_89 rfl rfl (fun h_ => ?_) (fun h_ => False.elim (by first | omega | (simp (decide := true) only [au_1, nu_2, au_lt, nu_lt, aw_e, nw_e, au_s, au_n, nu_s, nu_n, au_au, nu_nu, au_nu] at h_; omega)))
                refine w_inc8 (pc' := 146) dX0_find_143 rfl rfl ⟨by first | omega | (simp (decide := true) only [au_1, nu_2, au_lt, nu_lt, aw_e, nw_e, au_s, au_n, nu_s, nu_n, au_au, nu_nu, au_nu]; omega), by first | omega | (simp (decide := true) only [au_1, nu_2, au_lt, nu_lt, aw_e, nw_e, au_s, au_n, nu_s, nu_n, au_au, nu_nu, au_nu]; omega)⟩ ?_
                refine w_goto (tgt := 60) dX0_find_146 rfl ?_
                -- at 60: .iload 8
                rw [show 8 * n + 8 = 8 * (n + 1) by omega] at hm ⊢
                exact ihn _ hm
              · have hr := nFnd_r (q := q) (t := 8 * n + m) hlr ⟨i0, by omega⟩ ⟨by omega, by omega⟩
                have hstep := nFnd_s (σ := σ) (p := p) (q := q) (i := i) (t := 8 * n + m) (by omega)
                rw [show (8 * n + m) / 8 = n by omega, show (8 * n + m) % 8 = m by omega] at hstep
                rw [show 8 * n + (m + 1) = 8 * n + m + 1 by omega, hstep] at ihm
                have lastP : ¬ (fun i t => fnd σ p q i ((σ.2 7 (rw_ σ p i)) + t / 8) (t % 8) ∧ nFnd σ p q i t = k) i (8 * n + m) → ∀ t, 0 ≤ t → t < 8 * n + m + 1 → ¬ (fun i t => fnd σ p q i ((σ.2 7 (rw_ σ p i)) + t / 8) (t % 8) ∧ nFnd σ p q i t = k) i t := by
                  intro z t t0 t1
                  by_cases e : t = 8 * n + m
                  · rw [e]; exact z
                  · exact hm t t0 (by omega)
                have ePP : (fun i t => fnd σ p q i ((σ.2 7 (rw_ σ p i)) + t / 8) (t % 8) ∧ nFnd σ p q i t = k) i (8 * n + m) = (fnd σ p q i ((σ.2 7 (rw_ σ p i)) + n) m ∧ nFnd σ p q i (8 * n + m) = k) := by
                  show (fnd σ p q i ((σ.2 7 (rw_ σ p i)) + (8 * n + m) / 8) ((8 * n + m) % 8) ∧ _) = _
                  rw [show (8 * n + m) / 8 = n by omega, show (8 * n + m) % 8 = m by omega]
                rw [ePP] at lastP
                refine w_iload (pc' := 87) dX0_find_85 rfl rfl ?_
                refine w_bipush (pc' := 89) dX0_find_87 rfl (by decide +kernel) (by decide) ?_
                -- at 89: .if_icmp .ge 54
                refine w_icmp_ge (pc' := 92) (tgt := 143) dX0_find_89 rfl rfl (fun h_ => False.elim (by first | omega | (simp (decide := true) only [au_1, nu_2, au_lt, nu_lt, aw_e, nw_e, au_s, au_n, nu_s, nu_n, au_au, nu_nu, au_nu] at h_; omega))) (fun h_ => ?_)
                refine w_aload_n (pc' := 93) dX0_find_92 rfl rfl ?_
                refine w_aload (pc' := 95) dX0_find_93 rfl rfl ?_
                refine w_iload (pc' := 97) dX0_find_95 rfl rfl ?_
                refine w_iload (pc' := 99) dX0_find_97 rfl rfl ?_
                refine w_aload (pc' := 101) dX0_find_99 rfl rfl ?_
                refine w_iload (pc' := 103) dX0_find_101 rfl rfl ?_
                -- at 103: .invokevirtual 330
                refine w_callV5 (pc' := 106) (mc := 0) (ms := 0) dX0_find_103 rfl tX0_lies q859 rfl rfl qs23 q857 hof rfl (Nat.le_of_ble_eq_true rfl) (Nat.le_of_ble_eq_true rfl) ?_
                refine c_X0_lies hw hK hR hP hp hq hf ⟨m0, m1⟩ i0 i1 ⟨n0, by omega⟩ (fun z => w_p1 ?_) (fun z => w_p1 ?_)
                · rw [b1_t z] at ihm
                  refine w_if_ne (pc' := 109) (tgt := 112) dX0_find_106 rfl rfl (fun h_ => ?_) (fun h_ => False.elim (by first | omega | (simp (decide := true) only [au_1, nu_2, au_lt, nu_lt, aw_e, nw_e, au_s, au_n, nu_s, nu_n, au_au, nu_nu, au_nu] at h_; omega)))
                  refine w_iload (pc' := 114) dX0_find_112 rfl rfl ?_
                  refine w_iload_n (pc' := 115) dX0_find_114 rfl rfl ?_
                  -- at 115: .if_icmp .ne 19
                  refine w_icmp_ne (pc' := 118) (tgt := 134) dX0_find_115 rfl rfl (fun g => ?_) (fun g => ?_)
                  · refine w_inc6 (pc' := 137) dX0_find_134 rfl rfl ⟨by first | omega | (simp (decide := true) only [au_1, nu_2, au_lt, nu_lt, aw_e, nw_e, au_s, au_n, nu_s, nu_n, au_au, nu_nu, au_nu]; omega), by first | omega | (simp (decide := true) only [au_1, nu_2, au_lt, nu_lt, aw_e, nw_e, au_s, au_n, nu_s, nu_n, au_au, nu_nu, au_nu]; omega)⟩ ?_
                    refine w_inc9 (pc' := 140) dX0_find_137 rfl rfl ⟨by first | omega | (simp (decide := true) only [au_1, nu_2, au_lt, nu_lt, aw_e, nw_e, au_s, au_n, nu_s, nu_n, au_au, nu_nu, au_nu]; omega), by first | omega | (simp (decide := true) only [au_1, nu_2, au_lt, nu_lt, aw_e, nw_e, au_s, au_n, nu_s, nu_n, au_au, nu_nu, au_nu]; omega)⟩ ?_
                    refine w_goto (tgt := 85) dX0_find_140 rfl ?_
                    -- at 85: .iload 9
                    exact ihm (lastP (fun w => g (by have := w.2; omega)))
                  · have hPP : (fun i t => fnd σ p q i ((σ.2 7 (rw_ σ p i)) + t / 8) (t % 8) ∧ nFnd σ p q i t = k) i (8 * n + m) := by rw [ePP]; exact ⟨z, by omega⟩
                    rw [fi2_hit (P := (fun i t => fnd σ p q i ((σ.2 7 (rw_ σ p i)) + t / 8) (t % 8) ∧ nFnd σ p q i t = k)) (len := fun i => 8 * (σ.2 6 (rw_ σ p i))) i0 i1 (show 0 ≤ 8 * n + m by omega) (show 8 * n + m < 8 * (σ.2 6 (rw_ σ p i)) by omega) hPP hm hn, show (8 * n + m) / 8 = n by omega, show (8 * n + m) % 8 = m by omega] at h
                    refine w_sipush (pc' := 121) dX0_find_118 rfl (by decide +kernel) (by decide) ?_
                    refine w_iload (pc' := 123) dX0_find_121 rfl rfl ?_
                    refine w_imul (pc' := 124) dX0_find_123 rfl ⟨by first | omega | (simp (decide := true) only [au_1, nu_2, au_lt, nu_lt, aw_e, nw_e, au_s, au_n, nu_s, nu_n, au_au, nu_nu, au_nu]; omega), by first | omega | (simp (decide := true) only [au_1, nu_2, au_lt, nu_lt, aw_e, nw_e, au_s, au_n, nu_s, nu_n, au_au, nu_nu, au_nu]; omega)⟩ ?_
                    refine w_bipush (pc' := 126) dX0_find_124 rfl (by decide +kernel) (by decide) ?_
                    refine w_iload (pc' := 128) dX0_find_126 rfl rfl ?_
                    refine w_imul (pc' := 129) dX0_find_128 rfl ⟨by first | omega | (simp (decide := true) only [au_1, nu_2, au_lt, nu_lt, aw_e, nw_e, au_s, au_n, nu_s, nu_n, au_au, nu_nu, au_nu]; omega), by first | omega | (simp (decide := true) only [au_1, nu_2, au_lt, nu_lt, aw_e, nw_e, au_s, au_n, nu_s, nu_n, au_au, nu_nu, au_nu]; omega)⟩ ?_
                    refine w_iadd (pc' := 130) dX0_find_129 rfl ⟨by first | omega | (simp (decide := true) only [au_1, nu_2, au_lt, nu_lt, aw_e, nw_e, au_s, au_n, nu_s, nu_n, au_au, nu_nu, au_nu]; omega), by first | omega | (simp (decide := true) only [au_1, nu_2, au_lt, nu_lt, aw_e, nw_e, au_s, au_n, nu_s, nu_n, au_au, nu_nu, au_nu]; omega)⟩ ?_
                    refine w_iload (pc' := 132) dX0_find_130 rfl rfl ?_
                    refine w_iadd (pc' := 133) dX0_find_132 rfl ⟨by first | omega | (simp (decide := true) only [au_1, nu_2, au_lt, nu_lt, aw_e, nw_e, au_s, au_n, nu_s, nu_n, au_au, nu_nu, au_nu]; omega), by first | omega | (simp (decide := true) only [au_1, nu_2, au_lt, nu_lt, aw_e, nw_e, au_s, au_n, nu_s, nu_n, au_au, nu_nu, au_nu]; omega)⟩ ?_
                    -- at 133: .ireturn
                    refine w_ireturn dX0_find_133 rfl ?_
                    exact h
                · rw [b1_f z, Int.add_zero] at ihm
                  refine w_if_ne (pc' := 109) (tgt := 112) dX0_find_106 rfl rfl (fun h_ => False.elim (by first | omega | (simp (decide := true) only [au_1, nu_2, au_lt, nu_lt, aw_e, nw_e, au_s, au_n, nu_s, nu_n, au_au, nu_nu, au_nu] at h_; omega))) (fun h_ => ?_)
                  refine w_goto (tgt := 137) dX0_find_109 rfl ?_
                  refine w_inc9 (pc' := 140) dX0_find_137 rfl rfl ⟨by first | omega | (simp (decide := true) only [au_1, nu_2, au_lt, nu_lt, aw_e, nw_e, au_s, au_n, nu_s, nu_n, au_au, nu_nu, au_nu]; omega), by first | omega | (simp (decide := true) only [au_1, nu_2, au_lt, nu_lt, aw_e, nw_e, au_s, au_n, nu_s, nu_n, au_au, nu_nu, au_nu]; omega)⟩ ?_
                  refine w_goto (tgt := 85) dX0_find_140 rfl ?_
                  -- at 85: .iload 9
                  exact ihm (lastP (fun w => z w.1))
        · exact bad _ _ (fun z => by have := z.2.2.2; omega)
      · refine w_if_eq (pc' := 32) (tgt := 36) dX0_find_29 rfl rfl (fun h_ => ?_) (fun h_ => False.elim (by first | omega | (simp (decide := true) only [au_1, nu_2, au_lt, nu_lt, aw_e, nw_e, au_s, au_n, nu_s, nu_n, au_au, nu_nu, au_nu] at h_; omega)))
        exact bad _ _ (fun z => hf z.2.2.1)
    · refine w_ast5 (pc' := 14) dX0_find_12 rfl rfl ?_
      refine w_aload (pc' := 16) dX0_find_14 rfl rfl ?_
      -- at 16: .ifnull 20
      refine w_ifnull (pc' := 19) (tgt := 36) dX0_find_16 rfl rfl (fun h_ => False.elim (nomatch h_)) (fun h_ => ?_)
      refine w_aload (pc' := 21) dX0_find_19 rfl rfl ?_
      -- at 21: .ifnull 15
      refine w_ifnull (pc' := 24) (tgt := 36) dX0_find_21 rfl rfl (fun h_ => ?_) (fun h_ => False.elim (h_ rfl))
      exact bad _ _ (fun z => g z.2.1)
  · refine w_ast4 (pc' := 7) dX0_find_5 rfl rfl ?_
    refine w_aload_n (pc' := 8) dX0_find_7 rfl rfl ?_
    refine w_iload_n (pc' := 9) dX0_find_8 rfl rfl ?_
    -- at 9: .invokevirtual 150
    refine w_callV1 (pc' := 12) (mc := 0) (ms := 0) dX0_find_9 rfl tX0_pattern_2 q375 rfl rfl qs4 q373 hof rfl (Nat.le_of_ble_eq_true rfl) (Nat.le_of_ble_eq_true rfl) ?_
    refine c_X0_pattern_2 hw (fun q0 q1 => w_p1 ?_) (fun g2 => w_p1 ?_)
    · refine w_ast5 (pc' := 14) dX0_find_12 rfl rfl ?_
      refine w_aload (pc' := 16) dX0_find_14 rfl rfl ?_
      -- at 16: .ifnull 20
      refine w_ifnull (pc' := 19) (tgt := 36) dX0_find_16 rfl rfl (fun h_ => ?_) (fun h_ => False.elim (h_ rfl))
      exact bad _ _ (fun z => g z.1)
    · refine w_ast5 (pc' := 14) dX0_find_12 rfl rfl ?_
      refine w_aload (pc' := 16) dX0_find_14 rfl rfl ?_
      -- at 16: .ifnull 20
      refine w_ifnull (pc' := 19) (tgt := 36) dX0_find_16 rfl rfl (fun h_ => ?_) (fun h_ => False.elim (h_ rfl))
      exact bad _ _ (fun z => g z.1)
end
