set_option maxRecDepth 100000
theorem jq_i.mE {r : Nat → Nat} {dT : Nat → ClassId} {kI : Int32} {bs fg m nk : Nat} {a : A4} {M : Nat → Nat} {tk : Int64} {W : Nat → Nat → Int32} {v v' : Int32} {gf : j_H} {nx : Nat} (e : v' = v) : isQm r dT gf kI bs fg m nk a M tk W v (jq_i v' r (mdS r dT gf kI bs fg m nk a.1 a.2.1 a.2.2.1 a.2.2.2 M tk W) nx) := e ▸ jq_i.mQ
theorem jq_m.mE {r : Nat → Nat} {dT : Nat → ClassId} {kI : Int32} {bs fg m nk : Nat} {a : A4} {M : Nat → Nat} {tk : Int64} {W : Nat → Nat → Int32} {v v' : Int32} {gf : j_H} {nx : Nat} (e : v' = v) : isQm r dT gf kI bs fg m nk a M tk W v (jq_m v' r dT gf kI bs fg m nk a M tk W nx) := e ▸ jq_m.mQ
theorem told_0 {F M : Nat → Nat} (h0 : F 0 = 0) (h5 : F 5 = M 6) (h1 : F 1 = M 25) (h2 : F 2 = M 27) (h4 : F 4 = M 29) (k : Nat) : mTold M (-1) 0 0 0 0 0 0 0 0 k = told0 F 0 k := match k with
  | 0 => rfl | 1 => rfl | 2 => rfl | 3 => rfl | 4 => rfl | 5 => congrArg nI h5.symm | 6 => rfl | 7 => rfl | 8 => rfl
  | 9 => (by show nI 0 = nI (F 0 % 2); rw [h0])
  | 10 => congrArg nI h1.symm | 11 => congrArg nI h2.symm | _ + 12 => congrArg nI h4.symm
theorem told_1 {F M : Nat → Nat} {kd bs fg m nk : Nat} (h5 : F 5 = M 6) (h1 : F 1 = M 25) (h2 : F 2 = M 27) (h4 : F 4 = M 29) (k : Nat) : mTold M (nI kd) bs fg m nk (decA m (F 0)).1 (decA m (F 0)).2.1 (decA m (F 0)).2.2.1 (decA m (F 0)).2.2.2 k = told1 F kd bs fg m nk k := match k with
  | 0 => rfl | 1 => rfl | 2 => rfl | 3 => rfl | 4 => rfl | 5 => congrArg nI h5.symm | 6 => rfl | 7 => rfl | 8 => rfl | 9 => rfl
  | 10 => congrArg nI h1.symm | 11 => congrArg nI h2.symm | _ + 12 => congrArg nI h4.symm
theorem swI_cg {n : Nat} {x x' : Nat → Int32} {d v : Int32} (h : ∀ k, x k = x' k) : swI n x d v = swI n x' d v := by rw [show x = x' from funext h]
theorem in_tg {V : Nat → Int32} {m n : Nat} (hm : 0 < m) (hm2 : m ≤ 100) (h : ∀ i, i < n → 0 ≤ V i ∧ V i ≤ nI m - 1) : ∀ i, i < n → V i = nI (V i).toNatClampNeg ∧ (V i).toNatClampNeg < m := by
  intro i hi
  obtain ⟨k, h1, h2⟩ := in_m hm (by omega) (h i hi)
  rw [h1, nI_clamp (by omega)]
  exact ⟨rfl, h2⟩
set_option maxHeartbeats 2000000 in
theorem op_fault {l : Launch} {D : va_G} {dT : Nat → ClassId} {H0 : Heap} {r : Nat → Nat} {h : j_H} {nx : Nat} (hH : cw_H dT r h)  : PAIR l D dT H0 yX0_fault cX0_fault 1 yX3_fault cX3_fault 1 [] r h nx := by
  obtain ⟨g, F, V, kI, bs, fg, m, nk, a, M, tk, W, rfl, hP⟩ := hH
  obtain ⟨hT, hA, hI, hg, hD⟩ := id hP
  exact pr_q hP f_fault jq_i.q (fun _ _ => m_fault) (fun _ _ => jq_i.mE (by rw [hA.1]))
set_option maxHeartbeats 2000000 in
theorem op_told {l : Launch} {D : va_G} {dT : Nat → ClassId} {H0 : Heap} {r : Nat → Nat} {h : j_H} {nx : Nat} (hH : cw_H dT r h) (v : Int32) : PAIR l D dT H0 yX0_told cX0_told 2 yX3_told cX3_told 2 [.int v] r h nx := by
  obtain ⟨g, F, V, kI, bs, fg, m, nk, a, M, tk, W, rfl, hP⟩ := hH
  obtain ⟨hT, hA, hI, hg, hD⟩ := id hP
  rcases hD with h0 | ⟨kd, ks, h1⟩
  · skip
    obtain ⟨rfl, rfl, rfl, rfl, rfl, rfl, f0, ⟨c60, h60⟩, f2, f4, hi0⟩ := h0
    have h60m := (md60 (r := r) (dT := dT) (g := g) (kI := -1) (bs := 0) (fg := 0) (m := 0) (nk := 0) (a := (0, 0, 0, 0)) (M := M) (tk := tk) (W := W) (i := 60) (by decide)).trans h60
    exact pr_q hP (f_told0 h60m (by omega) v) jq_i.q (fun _ _ => m_told v (by decide)) (fun _ _ => jq_i.mE (swI_cg (told_0 f0 hT.1 hA.2.2.2.1 hA.2.2.2.2.1 hA.2.2.2.2.2.2.2.1)))
  · skip
    obtain ⟨rfl, hoD, hpw, hfg, hn8, h60, hK, hMK, hc1, rfl, hs, ht, hb, him⟩ := h1
    have h60m := (md60 (r := r) (dT := dT) (g := g) (kI := nI kd) (bs := bs) (fg := fg) (m := m) (nk := nk) (a := decA m (F 0)) (M := M) (tk := tk) (W := W) (i := 60) (by decide)).trans h60
    have hKm := hK.md (kI := nI kd) (bs := bs) (fg := fg) (m := m) (nk := nk) (a := decA m (F 0)) (M := M) (tk := tk) (W := W)
    have hm := hoD.pos
    have hm2 := hoD.le
    have hoA := decA_ok hm hs
    have hs8 : F 0 < 80000 := Nat.lt_of_lt_of_le hs (mm_le hm2)
    have h61m := hKm.1
    exact pr_q hP (f_told1 h60m h61m hm hm2 hs8 v) jq_i.q (fun _ _ => m_told v hoA.2.2.2) (fun _ _ => jq_i.mE (swI_cg (told_1 hT.1 hA.2.2.2.1 hA.2.2.2.2.1 hA.2.2.2.2.2.2.2.1)))
set_option maxHeartbeats 2000000 in
theorem op_fewest {l : Launch} {D : va_G} {dT : Nat → ClassId} {H0 : Heap} {r : Nat → Nat} {h : j_H} {nx : Nat} (hH : cw_H dT r h) (v : Int32) : PAIR l D dT H0 yX0_fewest cX0_fewest 2 yX3_fewest cX3_fewest 2 [.int v] r h nx := by
  obtain ⟨g, F, V, kI, bs, fg, m, nk, a, M, tk, W, rfl, hP⟩ := hH
  obtain ⟨hT, hA, hI, hg, hD⟩ := id hP
  rcases hD with h0 | ⟨kd, ks, h1⟩
  · skip
    obtain ⟨rfl, rfl, rfl, rfl, rfl, rfl, f0, ⟨c60, h60⟩, f2, f4, hi0⟩ := h0
    have h60m := (md60 (r := r) (dT := dT) (g := g) (kI := -1) (bs := 0) (fg := 0) (m := 0) (nk := 0) (a := (0, 0, 0, 0)) (M := M) (tk := tk) (W := W) (i := 60) (by decide)).trans h60
    exact pr_q hP (f_fewest0o h60m v no_0) jq_i.q (fun _ _ => m_fewesto v no_0) (fun _ _ => jq_i.mQ)
  · skip
    obtain ⟨rfl, hoD, hpw, hfg, hn8, h60, hK, hMK, hc1, rfl, hs, ht, hb, him⟩ := h1
    have h60m := (md60 (r := r) (dT := dT) (g := g) (kI := nI kd) (bs := bs) (fg := fg) (m := m) (nk := nk) (a := decA m (F 0)) (M := M) (tk := tk) (W := W) (i := 60) (by decide)).trans h60
    have hKm := hK.md (kI := nI kd) (bs := bs) (fg := fg) (m := m) (nk := nk) (a := decA m (F 0)) (M := M) (tk := tk) (W := W)
    have hm := hoD.pos
    have hm2 := hoD.le
    have hoA := decA_ok hm hs
    have hs8 : F 0 < 80000 := Nat.lt_of_lt_of_le hs (mm_le hm2)
    have h61m := hKm.1
    by_cases hv : 0 ≤ v ∧ v ≤ nI m - 1
    · skip
      obtain ⟨k, rfl, hk⟩ := in_m hm (by omega) hv
      exact pr_q hP (f_fewest1 h60m hKm k hk hs) jq_s.q (fun _ _ => m_fewest1 hoD hoA hMK hn8 k hk) (fun _ _ => jq_m.mQ)
    · skip
      exact pr_q hP (f_fewest1o h60m hKm v hv) jq_i.q (fun _ _ => m_fewesto v hv) (fun _ _ => jq_i.mQ)
set_option maxHeartbeats 2000000 in
theorem op_way {l : Launch} {D : va_G} {dT : Nat → ClassId} {H0 : Heap} {r : Nat → Nat} {h : j_H} {nx : Nat} (hH : cw_H dT r h) (v w : Int32) : PAIR l D dT H0 yX0_way cX0_way 6 yX3_way cX3_way 4 [.int v, .int w] r h nx := by
  obtain ⟨g, F, V, kI, bs, fg, m, nk, a, M, tk, W, rfl, hP⟩ := hH
  obtain ⟨hT, hA, hI, hg, hD⟩ := id hP
  rcases hD with h0 | ⟨kd, ks, h1⟩
  · skip
    obtain ⟨rfl, rfl, rfl, rfl, rfl, rfl, f0, ⟨c60, h60⟩, f2, f4, hi0⟩ := h0
    have h60m := (md60 (r := r) (dT := dT) (g := g) (kI := -1) (bs := 0) (fg := 0) (m := 0) (nk := 0) (a := (0, 0, 0, 0)) (M := M) (tk := tk) (W := W) (i := 60) (by decide)).trans h60
    exact pr_q hP (f_way0o h60m v w no_0) jq_i.q (fun _ _ => m_wayo v w no_0) (fun _ _ => jq_i.mQ)
  · skip
    obtain ⟨rfl, hoD, hpw, hfg, hn8, h60, hK, hMK, hc1, rfl, hs, ht, hb, him⟩ := h1
    have h60m := (md60 (r := r) (dT := dT) (g := g) (kI := nI kd) (bs := bs) (fg := fg) (m := m) (nk := nk) (a := decA m (F 0)) (M := M) (tk := tk) (W := W) (i := 60) (by decide)).trans h60
    have hKm := hK.md (kI := nI kd) (bs := bs) (fg := fg) (m := m) (nk := nk) (a := decA m (F 0)) (M := M) (tk := tk) (W := W)
    have hm := hoD.pos
    have hm2 := hoD.le
    have hoA := decA_ok hm hs
    have hs8 : F 0 < 80000 := Nat.lt_of_lt_of_le hs (mm_le hm2)
    have h61m := hKm.1
    by_cases hv : 0 ≤ v ∧ v ≤ nI m - 1
    · skip
      obtain ⟨k, rfl, hk⟩ := in_m hm (by omega) hv
      exact pr_q hP (f_way1 h60m hKm k hk w hs) jq_s.q (fun _ _ => m_way1 hoD hoA hMK hn8 k hk w) (fun _ _ => jq_m.mQ)
    · skip
      exact pr_q hP (f_way1o h60m hKm v w hv) jq_i.q (fun _ _ => m_wayo v w hv) (fun _ _ => jq_i.mQ)
set_option maxHeartbeats 2000000 in
theorem op_least {l : Launch} {D : va_G} {dT : Nat → ClassId} {H0 : Heap} {r : Nat → Nat} {h : j_H} {nx : Nat} (hH : cw_H dT r h) (v : Int32) : PAIR l D dT H0 yX0_least cX0_least 4 yX3_least cX3_least 2 [.int v] r h nx := by
  obtain ⟨g, F, V, kI, bs, fg, m, nk, a, M, tk, W, rfl, hP⟩ := hH
  obtain ⟨hT, hA, hI, hg, hD⟩ := id hP
  rcases hD with h0 | ⟨kd, ks, h1⟩
  · skip
    obtain ⟨rfl, rfl, rfl, rfl, rfl, rfl, f0, ⟨c60, h60⟩, f2, f4, hi0⟩ := h0
    have h60m := (md60 (r := r) (dT := dT) (g := g) (kI := -1) (bs := 0) (fg := 0) (m := 0) (nk := 0) (a := (0, 0, 0, 0)) (M := M) (tk := tk) (W := W) (i := 60) (by decide)).trans h60
    exact pr_q hP (f_least0o h60m v no_0) jq_i.q (fun _ _ => m_leasto v no_0) (fun _ _ => jq_i.mQ)
  · skip
    obtain ⟨rfl, hoD, hpw, hfg, hn8, h60, hK, hMK, hc1, rfl, hs, ht, hb, him⟩ := h1
    have h60m := (md60 (r := r) (dT := dT) (g := g) (kI := nI kd) (bs := bs) (fg := fg) (m := m) (nk := nk) (a := decA m (F 0)) (M := M) (tk := tk) (W := W) (i := 60) (by decide)).trans h60
    have hKm := hK.md (kI := nI kd) (bs := bs) (fg := fg) (m := m) (nk := nk) (a := decA m (F 0)) (M := M) (tk := tk) (W := W)
    have hm := hoD.pos
    have hm2 := hoD.le
    have hoA := decA_ok hm hs
    have hs8 : F 0 < 80000 := Nat.lt_of_lt_of_le hs (mm_le hm2)
    have h61m := hKm.1
    by_cases hv : 0 ≤ v ∧ v ≤ nI m - 1
    · skip
      obtain ⟨k, rfl, hk⟩ := in_m hm (by omega) hv
      exact pr_q hP (f_least1 h60m hKm k hk hs) jq_s.q (fun _ _ => m_least1 hoD hoA hMK hn8 hc1 k hk) (fun _ _ => jq_m.mE (bd_least hoD hpw hfg (fun k hk => (hMK k hk).2) hoA k).symm)
    · skip
      exact pr_q hP (f_least1o h60m hKm v hv) jq_i.q (fun _ _ => m_leasto v hv) (fun _ _ => jq_i.mQ)
set_option maxHeartbeats 2000000 in
theorem op_never {l : Launch} {D : va_G} {dT : Nat → ClassId} {H0 : Heap} {r : Nat → Nat} {h : j_H} {nx : Nat} (hH : cw_H dT r h) (v : Int32) : PAIR l D dT H0 yX0_never cX0_never 4 yX3_never cX3_never 4 [.int v] r h nx := by
  obtain ⟨g, F, V, kI, bs, fg, m, nk, a, M, tk, W, rfl, hP⟩ := hH
  obtain ⟨hT, hA, hI, hg, hD⟩ := id hP
  rcases hD with h0 | ⟨kd, ks, h1⟩
  · skip
    obtain ⟨rfl, rfl, rfl, rfl, rfl, rfl, f0, ⟨c60, h60⟩, f2, f4, hi0⟩ := h0
    have h60m := (md60 (r := r) (dT := dT) (g := g) (kI := -1) (bs := 0) (fg := 0) (m := 0) (nk := 0) (a := (0, 0, 0, 0)) (M := M) (tk := tk) (W := W) (i := 60) (by decide)).trans h60
    exact pr_q hP (f_never0 h60m v) jq_i.q (fun _ _ => m_never0 v) (fun _ _ => jq_m.mQ)
  · skip
    obtain ⟨rfl, hoD, hpw, hfg, hn8, h60, hK, hMK, hc1, rfl, hs, ht, hb, him⟩ := h1
    have h60m := (md60 (r := r) (dT := dT) (g := g) (kI := nI kd) (bs := bs) (fg := fg) (m := m) (nk := nk) (a := decA m (F 0)) (M := M) (tk := tk) (W := W) (i := 60) (by decide)).trans h60
    have hKm := hK.md (kI := nI kd) (bs := bs) (fg := fg) (m := m) (nk := nk) (a := decA m (F 0)) (M := M) (tk := tk) (W := W)
    have hm := hoD.pos
    have hm2 := hoD.le
    have hoA := decA_ok hm hs
    have hs8 : F 0 < 80000 := Nat.lt_of_lt_of_le hs (mm_le hm2)
    have h61m := hKm.1
    exact pr_q hP (f_never1 h60m hKm v hs) jq_s.q (fun _ _ => m_never1 hoD hoA hMK hn8 v) (fun _ _ => jq_m.mQ)
set_option maxHeartbeats 2000000 in
theorem op_farthest {l : Launch} {D : va_G} {dT : Nat → ClassId} {H0 : Heap} {r : Nat → Nat} {h : j_H} {nx : Nat} (hH : cw_H dT r h) (v : Int32) : PAIR l D dT H0 yX0_farthest cX0_farthest 5 yX3_farthest cX3_farthest 4 [.int v] r h nx := by
  obtain ⟨g, F, V, kI, bs, fg, m, nk, a, M, tk, W, rfl, hP⟩ := hH
  obtain ⟨hT, hA, hI, hg, hD⟩ := id hP
  by_cases hv : 0 ≤ v ∧ v ≤ 1
  · skip
    rcases hD with h0 | ⟨kd, ks, h1⟩
    · skip
      obtain ⟨rfl, rfl, rfl, rfl, rfl, rfl, f0, ⟨c60, h60⟩, f2, f4, hi0⟩ := h0
      have h60m := (md60 (r := r) (dT := dT) (g := g) (kI := -1) (bs := 0) (fg := 0) (m := 0) (nk := 0) (a := (0, 0, 0, 0)) (M := M) (tk := tk) (W := W) (i := 60) (by decide)).trans h60
      exact pr_q hP (f_farthest0 h60m v hv) jq_i.q (fun _ _ => m_farthest0 v hv) (fun _ _ => jq_i.mQ)
    · skip
      obtain ⟨rfl, hoD, hpw, hfg, hn8, h60, hK, hMK, hc1, rfl, hs, ht, hb, him⟩ := h1
      have h60m := (md60 (r := r) (dT := dT) (g := g) (kI := nI kd) (bs := bs) (fg := fg) (m := m) (nk := nk) (a := decA m (F 0)) (M := M) (tk := tk) (W := W) (i := 60) (by decide)).trans h60
      have hKm := hK.md (kI := nI kd) (bs := bs) (fg := fg) (m := m) (nk := nk) (a := decA m (F 0)) (M := M) (tk := tk) (W := W)
      have hm := hoD.pos
      have hm2 := hoD.le
      have hoA := decA_ok hm hs
      have hs8 : F 0 < 80000 := Nat.lt_of_lt_of_le hs (mm_le hm2)
      have h61m := hKm.1
      exact pr_q hP (f_farthest1 h60m hKm v hv hs) jq_s.q (fun _ _ => m_farthest1 hoD hoA hMK hn8 v hv) (fun _ _ => jq_m.mE rfl)
  · skip
    exact pr_q hP (f_farthesto v hv) jq_i.q (fun _ _ => m_farthesto v hv) (fun _ _ => jq_i.mQ)
set_option maxHeartbeats 2000000 in
theorem op_targetAt {l : Launch} {D : va_G} {dT : Nat → ClassId} {H0 : Heap} {r : Nat → Nat} {h : j_H} {nx : Nat} (hH : cw_H dT r h) (v : Int32) : PAIR l D dT H0 yX0_targetAt cX0_targetAt 2 yX3_targetAt cX3_targetAt 2 [.int v] r h nx := by
  obtain ⟨g, F, V, kI, bs, fg, m, nk, a, M, tk, W, rfl, hP⟩ := hH
  obtain ⟨hT, hA, hI, hg, hD⟩ := id hP
  by_cases hv : 0 ≤ v ∧ v ≤ nI (F 2) - 1
  · skip
    have hz : 0 < F 2 := by
      refine Nat.pos_of_ne_zero (fun z => ?_)
      rw [z] at hv
      exact no_0 hv
    have h6 := hA.2.2.2.2.2.1
    obtain ⟨k, rfl, hk⟩ := in_m hz (by omega) hv
    exact pr_q hP (f_targetAt1 k hk h6) jq_i.q (fun _ _ => m_targetAt1 k (by rw [← hA.2.2.2.2.1]; exact hk) (by rw [← hA.2.2.2.2.1]; exact h6)) (fun _ _ => jq_i.mE (hA.2.2.2.2.2.2.1 k (by omega)).symm)
  · skip
    exact pr_q hP (f_targetAt0 v hv) jq_i.q (fun _ _ => m_targetAt0 v (by rw [← hA.2.2.2.2.1]; exact hv)) (fun _ _ => jq_i.mQ)
set_option maxHeartbeats 2000000 in
theorem op_list {l : Launch} {D : va_G} {dT : Nat → ClassId} {H0 : Heap} {r : Nat → Nat} {h : j_H} {nx : Nat} (hH : cw_H dT r h)  : PAIR l D dT H0 yX0_list cX0_list 3 yX3_list cX3_list 1 [] r h nx := by
  obtain ⟨g, F, V, kI, bs, fg, m, nk, a, M, tk, W, rfl, hP⟩ := hH
  obtain ⟨hT, hA, hI, hg, hD⟩ := id hP
  rcases hD with h0 | ⟨kd, ks, h1⟩
  · skip
    obtain ⟨rfl, rfl, rfl, rfl, rfl, rfl, f0, ⟨c60, h60⟩, f2, f4, hi0⟩ := h0
    have h60m := (md60 (r := r) (dT := dT) (g := g) (kI := -1) (bs := 0) (fg := 0) (m := 0) (nk := 0) (a := (0, 0, 0, 0)) (M := M) (tk := tk) (W := W) (i := 60) (by decide)).trans h60
    exact pr_q hP (f_list0 h60m) jq_i.q (fun _ _ => m_list0 (by rw [← hA.2.2.2.2.1]; exact f2)) (fun _ _ => jq_i.mQ)
  · skip
    obtain ⟨rfl, hoD, hpw, hfg, hn8, h60, hK, hMK, hc1, rfl, hs, ht, hb, him⟩ := h1
    have h60m := (md60 (r := r) (dT := dT) (g := g) (kI := nI kd) (bs := bs) (fg := fg) (m := m) (nk := nk) (a := decA m (F 0)) (M := M) (tk := tk) (W := W) (i := 60) (by decide)).trans h60
    have hKm := hK.md (kI := nI kd) (bs := bs) (fg := fg) (m := m) (nk := nk) (a := decA m (F 0)) (M := M) (tk := tk) (W := W)
    have hm := hoD.pos
    have hm2 := hoD.le
    have hoA := decA_ok hm hs
    have hs8 : F 0 < 80000 := Nat.lt_of_lt_of_le hs (mm_le hm2)
    have h61m := hKm.1
    have h6 := hA.2.2.2.2.2.1
    have htg := in_tg hm hm2 ht
    have htg2 : ∀ i, i < M 27 → W 104 i = nI (V 2 i).toNatClampNeg ∧ (V 2 i).toNatClampNeg < m := fun i hi => by
      rw [← hA.2.2.2.2.1] at hi
      rw [← hA.2.2.2.2.2.2.1 i (by omega)]
      exact htg i hi
    exact pr_q hP (f_list1 h60m hKm (fun i => (V 2 i).toNatClampNeg) htg h6 hs) jq_s.q (fun _ _ => m_list1 hoD hoA hMK hn8 (fun i => (V 2 i).toNatClampNeg) htg2 (by rw [← hA.2.2.2.2.1]; exact h6)) (fun _ _ => jq_m.mE (by rw [hA.2.2.2.2.1]))
set_option maxHeartbeats 2000000 in
theorem op_quick {l : Launch} {D : va_G} {dT : Nat → ClassId} {H0 : Heap} {r : Nat → Nat} {h : j_H} {nx : Nat} (hH : cw_H dT r h) (v w : Int32) : PAIR l D dT H0 yX0_quick cX0_quick 9 yX3_quick cX3_quick 8 [.int v, .int w] r h nx := by
  obtain ⟨g, F, V, kI, bs, fg, m, nk, a, M, tk, W, rfl, hP⟩ := hH
  obtain ⟨hT, hA, hI, hg, hD⟩ := id hP
  by_cases hv : 0 ≤ v ∧ v ≤ 999
  · skip
    by_cases hw : 0 ≤ w ∧ w ≤ 999
    · skip
      rcases hD with h0 | ⟨kd, ks, h1⟩
      · skip
        obtain ⟨rfl, rfl, rfl, rfl, rfl, rfl, f0, ⟨c60, h60⟩, f2, f4, hi0⟩ := h0
        have h60m := (md60 (r := r) (dT := dT) (g := g) (kI := -1) (bs := 0) (fg := 0) (m := 0) (nk := 0) (a := (0, 0, 0, 0)) (M := M) (tk := tk) (W := W) (i := 60) (by decide)).trans h60
        exact pr_q hP (f_quick0 h60m v w hv hw) jq_i.q (fun _ _ => m_quick0 v w hv hw) (fun _ _ => jq_m.mQ)
      · skip
        obtain ⟨rfl, hoD, hpw, hfg, hn8, h60, hK, hMK, hc1, rfl, hs, ht, hb, him⟩ := h1
        have h60m := (md60 (r := r) (dT := dT) (g := g) (kI := nI kd) (bs := bs) (fg := fg) (m := m) (nk := nk) (a := decA m (F 0)) (M := M) (tk := tk) (W := W) (i := 60) (by decide)).trans h60
        have hKm := hK.md (kI := nI kd) (bs := bs) (fg := fg) (m := m) (nk := nk) (a := decA m (F 0)) (M := M) (tk := tk) (W := W)
        have hm := hoD.pos
        have hm2 := hoD.le
        have hoA := decA_ok hm hs
        have hs8 : F 0 < 80000 := Nat.lt_of_lt_of_le hs (mm_le hm2)
        have h61m := hKm.1
        obtain ⟨pp, rfl, -, hpp⟩ := in_n (lo := 0) (hi := 999) (by decide) (by decide) hv
        obtain ⟨ee, rfl, -, hee⟩ := in_n (lo := 0) (hi := 999) (by decide) (by decide) hw
        exact pr_q hP (f_quick1 h60m hKm pp ee hpp hee hs) jq_s.q (fun _ _ => m_quick1 hoD hoA hMK hn8 pp ee hpp hee) (fun _ _ => jq_m.mQ)
    · skip
      exact pr_q hP (f_quicko2 v w hv hw) jq_i.q (fun _ _ => m_quicko2 v w hv hw) (fun _ _ => jq_i.mQ)
  · skip
    exact pr_q hP (f_quicko1 v w hv) jq_i.q (fun _ _ => m_quicko1 v w hv) (fun _ _ => jq_i.mQ)
set_option maxHeartbeats 2000000 in
theorem op_struck {l : Launch} {D : va_G} {dT : Nat → ClassId} {H0 : Heap} {r : Nat → Nat} {h : j_H} {nx : Nat} (hH : cw_H dT r h) (v w u : Int32) : PAIR l D dT H0 yX0_struck cX0_struck 7 yX3_struck cX3_struck 7 [.int v, .int w, .int u] r h nx := by
  obtain ⟨g, F, V, kI, bs, fg, m, nk, a, M, tk, W, rfl, hP⟩ := hH
  obtain ⟨hT, hA, hI, hg, hD⟩ := id hP
  rcases hD with h0 | ⟨kd, ks, h1⟩
  · skip
    obtain ⟨rfl, rfl, rfl, rfl, rfl, rfl, f0, ⟨c60, h60⟩, f2, f4, hi0⟩ := h0
    have h60m := (md60 (r := r) (dT := dT) (g := g) (kI := -1) (bs := 0) (fg := 0) (m := 0) (nk := 0) (a := (0, 0, 0, 0)) (M := M) (tk := tk) (W := W) (i := 60) (by decide)).trans h60
    exact pr_q hP (f_struck0o h60m v w u) jq_i.q (fun _ _ => m_strucko v w u (fun z => no_0 z.2.1)) (fun _ _ => jq_i.mQ)
  · skip
    obtain ⟨rfl, hoD, hpw, hfg, hn8, h60, hK, hMK, hc1, rfl, hs, ht, hb, him⟩ := h1
    have h60m := (md60 (r := r) (dT := dT) (g := g) (kI := nI kd) (bs := bs) (fg := fg) (m := m) (nk := nk) (a := decA m (F 0)) (M := M) (tk := tk) (W := W) (i := 60) (by decide)).trans h60
    have hKm := hK.md (kI := nI kd) (bs := bs) (fg := fg) (m := m) (nk := nk) (a := decA m (F 0)) (M := M) (tk := tk) (W := W)
    have hm := hoD.pos
    have hm2 := hoD.le
    have hoA := decA_ok hm hs
    have hs8 : F 0 < 80000 := Nat.lt_of_lt_of_le hs (mm_le hm2)
    have h61m := hKm.1
    by_cases hv : (0 ≤ v ∧ v ≤ 8) ∧ (0 ≤ w ∧ w ≤ nI m - 1) ∧ (0 ≤ u ∧ u ≤ 1)
    · skip
      obtain ⟨hv, hw, hu⟩ := hv
      obtain ⟨n, rfl, -, hn⟩ := in_n (lo := 0) (hi := 8) (by decide) (by decide) hv
      obtain ⟨k, rfl, hk⟩ := in_m hm (by omega) hw
      exact pr_q hP (f_struck1 h60m hKm n k u hn hk hu hn8 hs) jq_s.q (fun _ _ => m_struck1 hoD hoA hMK hn8 n k u hn hk hu) (fun _ _ => jq_m.mQ)
    · skip
      exact pr_q hP (f_struck1o h60m hKm v w u hv) jq_i.q (fun _ _ => m_strucko v w u hv) (fun _ _ => jq_i.mQ)
set_option maxHeartbeats 2000000 in
theorem op_lost {l : Launch} {D : va_G} {dT : Nat → ClassId} {H0 : Heap} {r : Nat → Nat} {h : j_H} {nx : Nat} (hH : cw_H dT r h) (v : Int32) : PAIR l D dT H0 yX0_lost cX0_lost 3 yX3_lost cX3_lost 7 [.int v] r h nx := by
  obtain ⟨g, F, V, kI, bs, fg, m, nk, a, M, tk, W, rfl, hP⟩ := hH
  obtain ⟨hT, hA, hI, hg, hD⟩ := id hP
  rcases hD with h0 | ⟨kd, ks, h1⟩
  · skip
    obtain ⟨rfl, rfl, rfl, rfl, rfl, rfl, f0, ⟨c60, h60⟩, f2, f4, hi0⟩ := h0
    have h60m := (md60 (r := r) (dT := dT) (g := g) (kI := -1) (bs := 0) (fg := 0) (m := 0) (nk := 0) (a := (0, 0, 0, 0)) (M := M) (tk := tk) (W := W) (i := 60) (by decide)).trans h60
    have hn8 : 0 ≤ 8 := by decide
    by_cases hv : 0 ≤ v ∧ v ≤ nI (2 ^ 0 - 1)
    · skip
      obtain ⟨S, rfl, -, hS0⟩ := in_n (lo := 0) (hi := 2 ^ 0 - 1) (by decide) (by have : 2 ^ 0 ≤ 2 ^ 8 := Nat.pow_le_pow_right (by decide) hn8; omega) hv
      have hS : S < 256 := by have : 2 ^ 0 ≤ 2 ^ 8 := Nat.pow_le_pow_right (by decide) hn8; have : 0 < 2 ^ 0 := Nat.pow_pos (by decide); omega
      have hS1 : S = 0 := by simpa using hS0
      subst hS1
      exact pr_q hP (f_lostp h60m hn8 0 hv hS (by decide)) jq_i.q (fun _ _ => m_lostp hn8 0 hv hS (by decide)) (fun _ _ => jq_i.mQ)
    · skip
      exact pr_q hP (f_losto h60m hn8 v hv) jq_i.q (fun _ _ => m_losto hn8 v hv) (fun _ _ => jq_i.mQ)
  · skip
    obtain ⟨rfl, hoD, hpw, hfg, hn8, h60, hK, hMK, hc1, rfl, hs, ht, hb, him⟩ := h1
    have h60m := (md60 (r := r) (dT := dT) (g := g) (kI := nI kd) (bs := bs) (fg := fg) (m := m) (nk := nk) (a := decA m (F 0)) (M := M) (tk := tk) (W := W) (i := 60) (by decide)).trans h60
    have hKm := hK.md (kI := nI kd) (bs := bs) (fg := fg) (m := m) (nk := nk) (a := decA m (F 0)) (M := M) (tk := tk) (W := W)
    have hm := hoD.pos
    have hm2 := hoD.le
    have hoA := decA_ok hm hs
    have hs8 : F 0 < 80000 := Nat.lt_of_lt_of_le hs (mm_le hm2)
    have h61m := hKm.1
    by_cases hv : 0 ≤ v ∧ v ≤ nI (2 ^ nk - 1)
    · skip
      obtain ⟨S, rfl, -, hS0⟩ := in_n (lo := 0) (hi := 2 ^ nk - 1) (by decide) (by have : 2 ^ nk ≤ 2 ^ 8 := Nat.pow_le_pow_right (by decide) hn8; omega) hv
      have hS : S < 256 := by have : 2 ^ nk ≤ 2 ^ 8 := Nat.pow_le_pow_right (by decide) hn8; have : 0 < 2 ^ nk := Nat.pow_pos (by decide); omega
      by_cases hp : pcN S < 2
      · skip
        exact pr_q hP (f_lostp h60m hn8 S hv hS hp) jq_i.q (fun _ _ => m_lostp hn8 S hv hS hp) (fun _ _ => jq_i.mQ)
      · skip
        exact pr_q hP (f_lost1 h60m hKm hn8 S hv hS (by omega) hs) jq_z.q (fun _ _ => m_lost1 hoD hoA hMK hn8 S hv hS (by omega)) (fun _ _ => jq_i.mQ)
    · skip
      exact pr_q hP (f_losto h60m hn8 v hv) jq_i.q (fun _ _ => m_losto hn8 v hv) (fun _ _ => jq_i.mQ)
theorem jdg_A {kd bs m nk : Nat} {ks : Nat → KY} {bk : Nat → Nat} {bv bv' : Nat → Int32} (hoD : okD kd bs m) (hks : ∀ k, k < nk → okK bs m (ks k)) {N : Nat} (hbk : ∀ i, i < N → bk i < nk) (hbv : ∀ i, i < N → bv i = bv' i) : ∀ n i s, i + n ≤ N → s < 8 * m * m → jdgA (fun k a => stk kd bs m (ks k) a) bk bv' n i (decA m s) = jdg (fun k s => strk kd bs m (ks k) s) (fun s => nI (sS m s)) bk bv n i s
  | 0, _, _, _, _ => rfl
  | n + 1, i, s, hn, hs => by
    have hk := hks _ (hbk i (by omega))
    have hok := stk_ok hoD hk (decA_ok hoD.pos hs)
    have e1 : decA m (strk kd bs m (ks (bk i)) s) = stk kd bs m (ks (bk i)) (decA m s) := decA_encA hok
    have e2 : sS m (strk kd bs m (ks (bk i)) s) = (stk kd bs m (ks (bk i)) (decA m s)).2.2.1 := by rw [← e1]; rfl
    rw [jdgA, jdg, e2, hbv i (by omega), ← e1, jdg_A hoD hks hbk hbv n (i + 1) _ (by omega) (strk_lt hoD hk hs)]
set_option maxHeartbeats 2000000 in
theorem op_judge {l : Launch} {D : va_G} {dT : Nat → ClassId} {H0 : Heap} {r : Nat → Nat} {h : j_H} {nx : Nat} (hH : cw_H dT r h)  : PAIR l D dT H0 yX0_judge cX0_judge 3 yX3_judge cX3_judge 4 [] r h nx := by
  obtain ⟨g, F, V, kI, bs, fg, m, nk, a, M, tk, W, rfl, hP⟩ := hH
  obtain ⟨hT, hA, hI, hg, hD⟩ := id hP
  rcases hD with h0 | ⟨kd, ks, h1⟩
  · skip
    obtain ⟨rfl, rfl, rfl, rfl, rfl, rfl, f0, ⟨c60, h60⟩, f2, f4, hi0⟩ := h0
    have h60m := (md60 (r := r) (dT := dT) (g := g) (kI := -1) (bs := 0) (fg := 0) (m := 0) (nk := 0) (a := (0, 0, 0, 0)) (M := M) (tk := tk) (W := W) (i := 60) (by decide)).trans h60
    exact pr_q hP (f_judge0 f4) jq_i.q (fun _ _ => m_judge0 (by rw [← hA.2.2.2.2.2.2.2.1]; exact f4)) (fun _ _ => jq_i.mQ)
  · skip
    obtain ⟨rfl, hoD, hpw, hfg, hn8, h60, hK, hMK, hc1, rfl, hs, ht, hb, him⟩ := h1
    have h60m := (md60 (r := r) (dT := dT) (g := g) (kI := nI kd) (bs := bs) (fg := fg) (m := m) (nk := nk) (a := decA m (F 0)) (M := M) (tk := tk) (W := W) (i := 60) (by decide)).trans h60
    have hKm := hK.md (kI := nI kd) (bs := bs) (fg := fg) (m := m) (nk := nk) (a := decA m (F 0)) (M := M) (tk := tk) (W := W)
    have hm := hoD.pos
    have hm2 := hoD.le
    have hoA := decA_ok hm hs
    have hs8 : F 0 < 80000 := Nat.lt_of_lt_of_le hs (mm_le hm2)
    have h61m := hKm.1
    have h40 := hA.2.2.2.2.2.2.2.2.1
    have hbb := hA.2.2.2.2.2.2.2.2.2
    have e4 := hA.2.2.2.2.2.2.2.1
    have hbk : ∀ i, i < F 4 → V 3 i = nI (V 3 i).toNatClampNeg ∧ (V 3 i).toNatClampNeg < nk := by
      intro i hi
      have hz : 0 < nk := by
        refine Nat.pos_of_ne_zero (fun z => ?_)
        have := hb i hi
        rw [z] at this
        exact no_0 this
      exact in_tg hz (by omega) hb i hi
    have hbm : ∀ i, i < M 29 → W 105 (2 * i) = nI (V 3 i).toNatClampNeg ∧ (V 3 i).toNatClampNeg < nk ∧ W 105 (2 * i + 1) = W 105 (2 * i + 1) := fun i hi => by
      rw [← e4] at hi
      rw [← (hbb i (by omega)).1]
      exact ⟨(hbk i hi).1, (hbk i hi).2, rfl⟩
    exact pr_q hP (f_judge1 h60m hKm (fun i => (V 3 i).toNatClampNeg) hbk h40 hs) jq_i.q (fun _ _ => m_judge hoD hoA hMK hn8 (fun i => (V 3 i).toNatClampNeg) (fun i => W 105 (2 * i + 1)) hbm (by rw [← e4]; exact h40)) (fun _ _ => jq_i.mE (by rw [← e4]; exact jdg_A hoD (fun k hk => (hMK k hk).2) (N := F 4) (fun i hi => (hbk i hi).2) (fun i hi => (hbb i (by omega)).2) (F 4) 0 (F 0) (by omega) hs))
