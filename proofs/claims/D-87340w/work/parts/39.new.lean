set_option maxRecDepth 10000
theorem dz_c {v : XV} {l : List XV} (h : v = xI 0 ∨ v = xN ∨ v = xL 0) (hl : ∀ w ∈ l, w = xI 0 ∨ w = xN ∨ w = xL 0) : ∀ w ∈ v :: l, w = xI 0 ∨ w = xN ∨ w = xL 0 := by
  intro w hw
  rcases List.mem_cons.mp hw with rfl | hw
  · exact h
  · exact hl w hw
theorem nX0_7 : tv_nw RX0 7 9 3 [xI 0, xN, xI 0] := by
  refine ⟨_, _, tyJ2, rfl, q112, q113, q82, ?_, ?_, (dz_c (Or.inl rfl) (dz_c (Or.inr (Or.inl rfl)) (dz_c (Or.inl rfl) (fun _ h => nomatch h))))⟩
  · decide +kernel
  · intro k hk ad
    have : ∀ k, k < 3 → defaultValue (tyJ2 k) = vp_V (([xI 0, xN, xI 0] : List XV).map (tv_e ad)) k := by
      intro k hk
      match k, hk with
      | 0, _ => rfl
      | 1, _ => rfl
      | 2, _ => rfl
      | k + 3, h => exact absurd h (by omega)
    exact this k hk
theorem nX0_25 : tv_nw RX0 25 4 2 [xN, xN] := by
  refine ⟨_, _, tyX5, rfl, q138, q386, q93, ?_, ?_, (dz_c (Or.inr (Or.inl rfl)) (dz_c (Or.inr (Or.inl rfl)) (fun _ h => nomatch h)))⟩
  · decide +kernel
  · intro k hk ad
    have : ∀ k, k < 2 → defaultValue (tyX5 k) = vp_V (([xN, xN] : List XV).map (tv_e ad)) k := by
      intro k hk
      match k, hk with
      | 0, _ => rfl
      | 1, _ => rfl
      | k + 2, h => exact absurd h (by omega)
    exact this k hk
theorem nX0_62 : tv_nw RX0 62 3 1 [xN] := by
  refine ⟨_, _, tyX4, rfl, q355, q356, q92, ?_, ?_, (dz_c (Or.inr (Or.inl rfl)) (fun _ h => nomatch h))⟩
  · decide +kernel
  · intro k hk ad
    have : ∀ k, k < 1 → defaultValue (tyX4 k) = vp_V (([xN] : List XV).map (tv_e ad)) k := by
      intro k hk
      match k, hk with
      | 0, _ => rfl
      | k + 1, h => exact absurd h (by omega)
    exact this k hk
theorem nX0_64 : tv_nw RX0 64 7 3 [xI 0, xI 0, xN] := by
  refine ⟨_, _, tyX8, rfl, q610, q611, q96, ?_, ?_, (dz_c (Or.inl rfl) (dz_c (Or.inl rfl) (dz_c (Or.inr (Or.inl rfl)) (fun _ h => nomatch h))))⟩
  · decide +kernel
  · intro k hk ad
    have : ∀ k, k < 3 → defaultValue (tyX8 k) = vp_V (([xI 0, xI 0, xN] : List XV).map (tv_e ad)) k := by
      intro k hk
      match k, hk with
      | 0, _ => rfl
      | 1, _ => rfl
      | 2, _ => rfl
      | k + 3, h => exact absurd h (by omega)
    exact this k hk
theorem nX0_66 : tv_nw RX0 66 8 20 [xI 0, xI 0, xN, xN, xN, xN, xN, xN, xN, xI 0, xI 0, xI 0, xI 0, xI 0, xI 0, xI 0, xI 0, xI 0, xI 0, xN] := by
  refine ⟨_, _, tyX10, rfl, q865, q866, q103, ?_, ?_, (dz_c (Or.inl rfl) (dz_c (Or.inl rfl) (dz_c (Or.inr (Or.inl rfl)) (dz_c (Or.inr (Or.inl rfl)) (dz_c (Or.inr (Or.inl rfl)) (dz_c (Or.inr (Or.inl rfl)) (dz_c (Or.inr (Or.inl rfl)) (dz_c (Or.inr (Or.inl rfl)) (dz_c (Or.inr (Or.inl rfl)) (dz_c (Or.inl rfl) (dz_c (Or.inl rfl) (dz_c (Or.inl rfl) (dz_c (Or.inl rfl) (dz_c (Or.inl rfl) (dz_c (Or.inl rfl) (dz_c (Or.inl rfl) (dz_c (Or.inl rfl) (dz_c (Or.inl rfl) (dz_c (Or.inl rfl) (dz_c (Or.inr (Or.inl rfl)) (fun _ h => nomatch h)))))))))))))))))))))⟩
  · decide +kernel
  · intro k hk ad
    have : ∀ k, k < 20 → defaultValue (tyX10 k) = vp_V (([xI 0, xI 0, xN, xN, xN, xN, xN, xN, xN, xI 0, xI 0, xI 0, xI 0, xI 0, xI 0, xI 0, xI 0, xI 0, xI 0, xN] : List XV).map (tv_e ad)) k := by
      intro k hk
      match k, hk with
      | 0, _ => rfl
      | 1, _ => rfl
      | 2, _ => rfl
      | 3, _ => rfl
      | 4, _ => rfl
      | 5, _ => rfl
      | 6, _ => rfl
      | 7, _ => rfl
      | 8, _ => rfl
      | 9, _ => rfl
      | 10, _ => rfl
      | 11, _ => rfl
      | 12, _ => rfl
      | 13, _ => rfl
      | 14, _ => rfl
      | 15, _ => rfl
      | 16, _ => rfl
      | 17, _ => rfl
      | 18, _ => rfl
      | 19, _ => rfl
      | k + 20, h => exact absurd h (by omega)
    exact this k hk
theorem nX0_80 : tv_nw RX0 80 2 5 [xN, xI 0, xI 0, xI 0, xL 0] := by
  refine ⟨_, _, tyX2, rfl, q224, q231, q86, ?_, ?_, (dz_c (Or.inr (Or.inl rfl)) (dz_c (Or.inl rfl) (dz_c (Or.inl rfl) (dz_c (Or.inl rfl) (dz_c (Or.inr (Or.inr rfl)) (fun _ h => nomatch h))))))⟩
  · decide +kernel
  · intro k hk ad
    have : ∀ k, k < 5 → defaultValue (tyX2 k) = vp_V (([xN, xI 0, xI 0, xI 0, xL 0] : List XV).map (tv_e ad)) k := by
      intro k hk
      match k, hk with
      | 0, _ => rfl
      | 1, _ => rfl
      | 2, _ => rfl
      | 3, _ => rfl
      | 4, _ => rfl
      | k + 5, h => exact absurd h (by omega)
    exact this k hk
theorem nX0_138 : tv_nw RX0 138 5 4 [xN, xN, xN, xI 0] := by
  refine ⟨_, _, tyX6, rfl, q425, q426, q94, ?_, ?_, (dz_c (Or.inr (Or.inl rfl)) (dz_c (Or.inr (Or.inl rfl)) (dz_c (Or.inr (Or.inl rfl)) (dz_c (Or.inl rfl) (fun _ h => nomatch h)))))⟩
  · decide +kernel
  · intro k hk ad
    have : ∀ k, k < 4 → defaultValue (tyX6 k) = vp_V (([xN, xN, xN, xI 0] : List XV).map (tv_e ad)) k := by
      intro k hk
      match k, hk with
      | 0, _ => rfl
      | 1, _ => rfl
      | 2, _ => rfl
      | 3, _ => rfl
      | k + 4, h => exact absurd h (by omega)
    exact this k hk
theorem nX0_200 : tv_nw RX0 200 6 3 [xN, xN, xN] := by
  refine ⟨_, _, tyX7, rfl, q549, q550, q95, ?_, ?_, (dz_c (Or.inr (Or.inl rfl)) (dz_c (Or.inr (Or.inl rfl)) (dz_c (Or.inr (Or.inl rfl)) (fun _ h => nomatch h))))⟩
  · decide +kernel
  · intro k hk ad
    have : ∀ k, k < 3 → defaultValue (tyX7 k) = vp_V (([xN, xN, xN] : List XV).map (tv_e ad)) k := by
      intro k hk
      match k, hk with
      | 0, _ => rfl
      | 1, _ => rfl
      | 2, _ => rfl
      | k + 3, h => exact absurd h (by omega)
    exact this k hk
theorem nX0_281 : tv_nw RX0 281 10 6 [xN, xN, xN, xN, xI 0, xN] := by
  refine ⟨_, _, tyJ11, rfl, q694, q695, q100, ?_, ?_, (dz_c (Or.inr (Or.inl rfl)) (dz_c (Or.inr (Or.inl rfl)) (dz_c (Or.inr (Or.inl rfl)) (dz_c (Or.inr (Or.inl rfl)) (dz_c (Or.inl rfl) (dz_c (Or.inr (Or.inl rfl)) (fun _ h => nomatch h)))))))⟩
  · decide +kernel
  · intro k hk ad
    have : ∀ k, k < 6 → defaultValue (tyJ11 k) = vp_V (([xN, xN, xN, xN, xI 0, xN] : List XV).map (tv_e ad)) k := by
      intro k hk
      match k, hk with
      | 0, _ => rfl
      | 1, _ => rfl
      | 2, _ => rfl
      | 3, _ => rfl
      | 4, _ => rfl
      | 5, _ => rfl
      | k + 6, h => exact absurd h (by omega)
    exact this k hk
theorem nX0_283 : tv_nw RX0 283 11 6 [xN, xN, xN, xN, xN, xI 0] := by
  refine ⟨_, _, tyX9, rfl, q681, q777, q102, ?_, ?_, (dz_c (Or.inr (Or.inl rfl)) (dz_c (Or.inr (Or.inl rfl)) (dz_c (Or.inr (Or.inl rfl)) (dz_c (Or.inr (Or.inl rfl)) (dz_c (Or.inr (Or.inl rfl)) (dz_c (Or.inl rfl) (fun _ h => nomatch h)))))))⟩
  · decide +kernel
  · intro k hk ad
    have : ∀ k, k < 6 → defaultValue (tyX9 k) = vp_V (([xN, xN, xN, xN, xN, xI 0] : List XV).map (tv_e ad)) k := by
      intro k hk
      match k, hk with
      | 0, _ => rfl
      | 1, _ => rfl
      | 2, _ => rfl
      | 3, _ => rfl
      | 4, _ => rfl
      | 5, _ => rfl
      | k + 6, h => exact absurd h (by omega)
    exact this k hk
theorem nX7_12 : tv_nw RX7 12 6 3 [xN, xN, xN] := by
  refine ⟨_, _, tyX7, rfl, q588, q550, q95, ?_, ?_, (dz_c (Or.inr (Or.inl rfl)) (dz_c (Or.inr (Or.inl rfl)) (dz_c (Or.inr (Or.inl rfl)) (fun _ h => nomatch h))))⟩
  · decide +kernel
  · intro k hk ad
    have : ∀ k, k < 3 → defaultValue (tyX7 k) = vp_V (([xN, xN, xN] : List XV).map (tv_e ad)) k := by
      intro k hk
      match k, hk with
      | 0, _ => rfl
      | 1, _ => rfl
      | 2, _ => rfl
      | k + 3, h => exact absurd h (by omega)
    exact this k hk
theorem nX7_52 : tv_nw RX7 52 2 5 [xN, xI 0, xI 0, xI 0, xL 0] := by
  refine ⟨_, _, tyX2, rfl, q597, q231, q86, ?_, ?_, (dz_c (Or.inr (Or.inl rfl)) (dz_c (Or.inl rfl) (dz_c (Or.inl rfl) (dz_c (Or.inl rfl) (dz_c (Or.inr (Or.inr rfl)) (fun _ h => nomatch h))))))⟩
  · decide +kernel
  · intro k hk ad
    have : ∀ k, k < 5 → defaultValue (tyX2 k) = vp_V (([xN, xI 0, xI 0, xI 0, xL 0] : List XV).map (tv_e ad)) k := by
      intro k hk
      match k, hk with
      | 0, _ => rfl
      | 1, _ => rfl
      | 2, _ => rfl
      | 3, _ => rfl
      | 4, _ => rfl
      | k + 5, h => exact absurd h (by omega)
    exact this k hk
theorem nX5_13 : tv_nw RX5 13 9 3 [xI 0, xN, xI 0] := by
  refine ⟨_, _, tyJ2, rfl, q391, q113, q82, ?_, ?_, (dz_c (Or.inl rfl) (dz_c (Or.inr (Or.inl rfl)) (dz_c (Or.inl rfl) (fun _ h => nomatch h))))⟩
  · decide +kernel
  · intro k hk ad
    have : ∀ k, k < 3 → defaultValue (tyJ2 k) = vp_V (([xI 0, xN, xI 0] : List XV).map (tv_e ad)) k := by
      intro k hk
      match k, hk with
      | 0, _ => rfl
      | 1, _ => rfl
      | 2, _ => rfl
      | k + 3, h => exact absurd h (by omega)
    exact this k hk
theorem nX10_62 : tv_nw RX10 62 2 5 [xN, xI 0, xI 0, xI 0, xL 0] := by
  refine ⟨_, _, tyX2, rfl, q953, q231, q86, ?_, ?_, (dz_c (Or.inr (Or.inl rfl)) (dz_c (Or.inl rfl) (dz_c (Or.inl rfl) (dz_c (Or.inl rfl) (dz_c (Or.inr (Or.inr rfl)) (fun _ h => nomatch h))))))⟩
  · decide +kernel
  · intro k hk ad
    have : ∀ k, k < 5 → defaultValue (tyX2 k) = vp_V (([xN, xI 0, xI 0, xI 0, xL 0] : List XV).map (tv_e ad)) k := by
      intro k hk
      match k, hk with
      | 0, _ => rfl
      | 1, _ => rfl
      | 2, _ => rfl
      | 3, _ => rfl
      | 4, _ => rfl
      | k + 5, h => exact absurd h (by omega)
    exact this k hk
theorem nX4_7 : tv_nw RX4 7 9 3 [xI 0, xN, xI 0] := by
  refine ⟨_, _, tyJ2, rfl, q361, q113, q82, ?_, ?_, (dz_c (Or.inl rfl) (dz_c (Or.inr (Or.inl rfl)) (dz_c (Or.inl rfl) (fun _ h => nomatch h))))⟩
  · decide +kernel
  · intro k hk ad
    have : ∀ k, k < 3 → defaultValue (tyJ2 k) = vp_V (([xI 0, xN, xI 0] : List XV).map (tv_e ad)) k := by
      intro k hk
      match k, hk with
      | 0, _ => rfl
      | 1, _ => rfl
      | 2, _ => rfl
      | k + 3, h => exact absurd h (by omega)
    exact this k hk
theorem nX4_24 : tv_nw RX4 24 5 4 [xN, xN, xN, xI 0] := by
  refine ⟨_, _, tyX6, rfl, q471, q426, q94, ?_, ?_, (dz_c (Or.inr (Or.inl rfl)) (dz_c (Or.inr (Or.inl rfl)) (dz_c (Or.inr (Or.inl rfl)) (dz_c (Or.inl rfl) (fun _ h => nomatch h)))))⟩
  · decide +kernel
  · intro k hk ad
    have : ∀ k, k < 4 → defaultValue (tyX6 k) = vp_V (([xN, xN, xN, xI 0] : List XV).map (tv_e ad)) k := by
      intro k hk
      match k, hk with
      | 0, _ => rfl
      | 1, _ => rfl
      | 2, _ => rfl
      | 3, _ => rfl
      | k + 4, h => exact absurd h (by omega)
    exact this k hk
theorem nX8_9 : tv_nw RX8 9 6 3 [xN, xN, xN] := by
  refine ⟨_, _, tyX7, rfl, q616, q550, q95, ?_, ?_, (dz_c (Or.inr (Or.inl rfl)) (dz_c (Or.inr (Or.inl rfl)) (dz_c (Or.inr (Or.inl rfl)) (fun _ h => nomatch h))))⟩
  · decide +kernel
  · intro k hk ad
    have : ∀ k, k < 3 → defaultValue (tyX7 k) = vp_V (([xN, xN, xN] : List XV).map (tv_e ad)) k := by
      intro k hk
      match k, hk with
      | 0, _ => rfl
      | 1, _ => rfl
      | 2, _ => rfl
      | k + 3, h => exact absurd h (by omega)
    exact this k hk
theorem nL_7 : tv_nw "TileOfficeLaw" 7 0 15 [xN, xN, xN, xN, xN, xI 0, xI 0, xI 0, xN, xN, xN, xN, xN, xN, xN] := by
  refine ⟨_, _, tyX0, rfl, q104, q105, q79, ?_, ?_, (dz_c (Or.inr (Or.inl rfl)) (dz_c (Or.inr (Or.inl rfl)) (dz_c (Or.inr (Or.inl rfl)) (dz_c (Or.inr (Or.inl rfl)) (dz_c (Or.inr (Or.inl rfl)) (dz_c (Or.inl rfl) (dz_c (Or.inl rfl) (dz_c (Or.inl rfl) (dz_c (Or.inr (Or.inl rfl)) (dz_c (Or.inr (Or.inl rfl)) (dz_c (Or.inr (Or.inl rfl)) (dz_c (Or.inr (Or.inl rfl)) (dz_c (Or.inr (Or.inl rfl)) (dz_c (Or.inr (Or.inl rfl)) (dz_c (Or.inr (Or.inl rfl)) (fun _ h => nomatch h))))))))))))))))⟩
  · decide +kernel
  · intro k hk ad
    have : ∀ k, k < 15 → defaultValue (tyX0 k) = vp_V (([xN, xN, xN, xN, xN, xI 0, xI 0, xI 0, xN, xN, xN, xN, xN, xN, xN] : List XV).map (tv_e ad)) k := by
      intro k hk
      match k, hk with
      | 0, _ => rfl
      | 1, _ => rfl
      | 2, _ => rfl
      | 3, _ => rfl
      | 4, _ => rfl
      | 5, _ => rfl
      | 6, _ => rfl
      | 7, _ => rfl
      | 8, _ => rfl
      | 9, _ => rfl
      | 10, _ => rfl
      | 11, _ => rfl
      | 12, _ => rfl
      | 13, _ => rfl
      | 14, _ => rfl
      | k + 15, h => exact absurd h (by omega)
    exact this k hk
theorem nL_10 : tv_nw "TileOfficeLaw" 10 1 55 [xN, xN, xN, xN, xN, xI 0, xN, xN, xN, xI 0, xN, xN, xI 0, xN, xN, xN, xI 0, xI 0, xI 0, xI 0, xN, xN, xN, xN, xI 0, xI 0, xN, xN, xN, xI 0, xN, xN, xN, xN, xN, xN, xN, xN, xN, xN, xI 0, xI 0, xI 0, xI 0, xN, xN, xN, xN, xN, xI 0, xI 0, xI 0, xI 0, xI 0, xI 0] := by
  refine ⟨_, _, tyX1, rfl, q1065, q1066, q83, ?_, ?_, (dz_c (Or.inr (Or.inl rfl)) (dz_c (Or.inr (Or.inl rfl)) (dz_c (Or.inr (Or.inl rfl)) (dz_c (Or.inr (Or.inl rfl)) (dz_c (Or.inr (Or.inl rfl)) (dz_c (Or.inl rfl) (dz_c (Or.inr (Or.inl rfl)) (dz_c (Or.inr (Or.inl rfl)) (dz_c (Or.inr (Or.inl rfl)) (dz_c (Or.inl rfl) (dz_c (Or.inr (Or.inl rfl)) (dz_c (Or.inr (Or.inl rfl)) (dz_c (Or.inl rfl) (dz_c (Or.inr (Or.inl rfl)) (dz_c (Or.inr (Or.inl rfl)) (dz_c (Or.inr (Or.inl rfl)) (dz_c (Or.inl rfl) (dz_c (Or.inl rfl) (dz_c (Or.inl rfl) (dz_c (Or.inl rfl) (dz_c (Or.inr (Or.inl rfl)) (dz_c (Or.inr (Or.inl rfl)) (dz_c (Or.inr (Or.inl rfl)) (dz_c (Or.inr (Or.inl rfl)) (dz_c (Or.inl rfl) (dz_c (Or.inl rfl) (dz_c (Or.inr (Or.inl rfl)) (dz_c (Or.inr (Or.inl rfl)) (dz_c (Or.inr (Or.inl rfl)) (dz_c (Or.inl rfl) (dz_c (Or.inr (Or.inl rfl)) (dz_c (Or.inr (Or.inl rfl)) (dz_c (Or.inr (Or.inl rfl)) (dz_c (Or.inr (Or.inl rfl)) (dz_c (Or.inr (Or.inl rfl)) (dz_c (Or.inr (Or.inl rfl)) (dz_c (Or.inr (Or.inl rfl)) (dz_c (Or.inr (Or.inl rfl)) (dz_c (Or.inr (Or.inl rfl)) (dz_c (Or.inr (Or.inl rfl)) (dz_c (Or.inl rfl) (dz_c (Or.inl rfl) (dz_c (Or.inl rfl) (dz_c (Or.inl rfl) (dz_c (Or.inr (Or.inl rfl)) (dz_c (Or.inr (Or.inl rfl)) (dz_c (Or.inr (Or.inl rfl)) (dz_c (Or.inr (Or.inl rfl)) (dz_c (Or.inr (Or.inl rfl)) (dz_c (Or.inl rfl) (dz_c (Or.inl rfl) (dz_c (Or.inl rfl) (dz_c (Or.inl rfl) (dz_c (Or.inl rfl) (dz_c (Or.inl rfl) (fun _ h => nomatch h))))))))))))))))))))))))))))))))))))))))))))))))))))))))⟩
  · decide +kernel
  · intro k hk ad
    have : ∀ k, k < 55 → defaultValue (tyX1 k) = vp_V (([xN, xN, xN, xN, xN, xI 0, xN, xN, xN, xI 0, xN, xN, xI 0, xN, xN, xN, xI 0, xI 0, xI 0, xI 0, xN, xN, xN, xN, xI 0, xI 0, xN, xN, xN, xI 0, xN, xN, xN, xN, xN, xN, xN, xN, xN, xN, xI 0, xI 0, xI 0, xI 0, xN, xN, xN, xN, xN, xI 0, xI 0, xI 0, xI 0, xI 0, xI 0] : List XV).map (tv_e ad)) k := by
      intro k hk
      match k, hk with
      | 0, _ => rfl
      | 1, _ => rfl
      | 2, _ => rfl
      | 3, _ => rfl
      | 4, _ => rfl
      | 5, _ => rfl
      | 6, _ => rfl
      | 7, _ => rfl
      | 8, _ => rfl
      | 9, _ => rfl
      | 10, _ => rfl
      | 11, _ => rfl
      | 12, _ => rfl
      | 13, _ => rfl
      | 14, _ => rfl
      | 15, _ => rfl
      | 16, _ => rfl
      | 17, _ => rfl
      | 18, _ => rfl
      | 19, _ => rfl
      | 20, _ => rfl
      | 21, _ => rfl
      | 22, _ => rfl
      | 23, _ => rfl
      | 24, _ => rfl
      | 25, _ => rfl
      | 26, _ => rfl
      | 27, _ => rfl
      | 28, _ => rfl
      | 29, _ => rfl
      | 30, _ => rfl
      | 31, _ => rfl
      | 32, _ => rfl
      | 33, _ => rfl
      | 34, _ => rfl
      | 35, _ => rfl
      | 36, _ => rfl
      | 37, _ => rfl
      | 38, _ => rfl
      | 39, _ => rfl
      | 40, _ => rfl
      | 41, _ => rfl
      | 42, _ => rfl
      | 43, _ => rfl
      | 44, _ => rfl
      | 45, _ => rfl
      | 46, _ => rfl
      | 47, _ => rfl
      | 48, _ => rfl
      | 49, _ => rfl
      | 50, _ => rfl
      | 51, _ => rfl
      | 52, _ => rfl
      | 53, _ => rfl
      | 54, _ => rfl
      | k + 55, h => exact absurd h (by omega)
    exact this k hk
theorem nJ6_109 : tv_nw RJ6 109 10 6 [xN, xN, xN, xN, xI 0, xN] := by
  refine ⟨_, _, tyJ11, rfl, q771, q695, q100, ?_, ?_, (dz_c (Or.inr (Or.inl rfl)) (dz_c (Or.inr (Or.inl rfl)) (dz_c (Or.inr (Or.inl rfl)) (dz_c (Or.inr (Or.inl rfl)) (dz_c (Or.inl rfl) (dz_c (Or.inr (Or.inl rfl)) (fun _ h => nomatch h)))))))⟩
  · decide +kernel
  · intro k hk ad
    have : ∀ k, k < 6 → defaultValue (tyJ11 k) = vp_V (([xN, xN, xN, xN, xI 0, xN] : List XV).map (tv_e ad)) k := by
      intro k hk
      match k, hk with
      | 0, _ => rfl
      | 1, _ => rfl
      | 2, _ => rfl
      | 3, _ => rfl
      | 4, _ => rfl
      | 5, _ => rfl
      | k + 6, h => exact absurd h (by omega)
    exact this k hk
theorem nJ2_10 : tv_nw RJ2 10 9 3 [xI 0, xN, xI 0] := by
  refine ⟨_, _, tyJ2, rfl, q411, q113, q82, ?_, ?_, (dz_c (Or.inl rfl) (dz_c (Or.inr (Or.inl rfl)) (dz_c (Or.inl rfl) (fun _ h => nomatch h))))⟩
  · decide +kernel
  · intro k hk ad
    have : ∀ k, k < 3 → defaultValue (tyJ2 k) = vp_V (([xI 0, xN, xI 0] : List XV).map (tv_e ad)) k := by
      intro k hk
      match k, hk with
      | 0, _ => rfl
      | 1, _ => rfl
      | 2, _ => rfl
      | k + 3, h => exact absurd h (by omega)
    exact this k hk
