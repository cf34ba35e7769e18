set_option maxRecDepth 100000
theorem cw_T.tr {F M F' M' : Nat → Nat} {V W V' W' : Nat → Nat → Int32} (h : cw_T F M V W) (h5 : F' 5 = F 5) (h6 : M' 6 = M 6) (v5 : V' 5 = V 5) (w2 : W' 102 = W 102) : cw_T F' M' V' W' := by
  unfold cw_T at h ⊢
  rw [h5, h6, v5, w2]; exact h
theorem cw_I.tr {F M F' M' : Nat → Nat} {V W V' W' : Nat → Nat → Int32} (h : cw_I F M V W) (hF : ∀ k, 10 ≤ k → F' k = F k) (hM : ∀ k, 100 ≤ k → M' k = M k) (hV : ∀ k, 19 ≤ k → V' k = V k) (w6 : W' 106 = W 106) (w8 : W' 108 = W 108) : cw_I F' M' V' W' := by
  intro i hi
  rw [hF (10 * i + 14) (by omega), hF (10 * i + 11) (by omega), hF (10 * i + 12) (by omega), hF (10 * i + 13) (by omega), hM (i + 100) (by omega), hV (2 * i + 19) (by omega), w6, w8]
  exact h i hi
theorem cw_0.tr {g : j_H} {F F' : Nat → Nat} {W W' : Nat → Nat → Int32} {kI : Int32} {bs fg m nk : Nat} {a : A4} (h : cw_0 g F W kI bs fg m nk a) (hF : ∀ k, 10 ≤ k → F' k = F k) (f0 : F' 0 = 0) (f2 : F' 2 = 0) (f4 : F' 4 = 0) (w6 : W' 106 = W 106) : cw_0 g F' W' kI bs fg m nk a := by
  obtain ⟨a1, a2, a3, a4, a5, a6, a7, a8, a9, b1, b2⟩ := h
  refine ⟨a1, a2, a3, a4, a5, a6, f0, a8, f2, f4, fun i hi => ?_⟩
  rw [hF (10 * i + 14) (by omega), hF (10 * i + 10) (by omega), hF (10 * i + 12) (by omega), w6]
  exact b2 i hi
theorem cw_1.tr {r : Nat → Nat} {dT : Nat → ClassId} {g : j_H} {F F' : Nat → Nat} {V W V' W' : Nat → Nat → Int32} {kI : Int32} {bs fg m nk : Nat} {a a' : A4} {kd : Nat} {ks : Nat → KY} (h : cw_1 r dT g F V W kI bs fg m nk a kd ks) (hF : ∀ k, 10 ≤ k → F' k = F k) (ha : a' = decA m (F' 0)) (hs : F' 0 < 8 * m * m) (ht : ∀ i, i < F' 2 → 0 ≤ V' 2 i ∧ V' 2 i ≤ nI m - 1) (hb : ∀ i, i < F' 4 → 0 ≤ V' 3 i ∧ V' 3 i ≤ nI nk - 1) (hV : ∀ k, 19 ≤ k → V' k = V k) (w1 : W' 101 = W 101) (w6 : W' 106 = W 106) : cw_1 r dT g F' V' W' kI bs fg m nk a' kd ks := by
  obtain ⟨a1, a2, a3, a4, a5, a6, a7, a8, a9, b1, b2, b3, b4, b5⟩ := h
  refine ⟨a1, a2, a3, a4, a5, a6, a7, by rw [w1]; exact a8, a9, ha, hs, ht, hb, fun i hi => ?_⟩
  rw [hF (10 * i + 14) (by omega), hF (10 * i + 10) (by omega), hF (10 * i + 12) (by omega), w6, hV (2 * i + 19) (by omega)]
  exact b5 i hi
theorem key_m {f : Nat → Int32} {k u : Nat} {q : KY} (h : mdQ f k q) (hu : u < 4) : f (4 * k + u) = keyV q (nI u) := by
  obtain ⟨h1, h2, h3, h4⟩ := h
  have ck : u = 0 ∨ u = 1 ∨ u = 2 ∨ u = 3 := by omega
  unfold keyV
  rcases ck with rfl | rfl | rfl | rfl
  · rw [if_pos (by decide)]; exact h1
  · rw [if_neg (by decide), if_pos (by decide)]; exact h2
  · rw [if_neg (by decide), if_neg (by decide), if_pos (by decide)]; exact h3
  · rw [if_neg (by decide), if_neg (by decide), if_neg (by decide), if_pos (by decide)]; exact h4
theorem key_o {q : KY} {w : Int32} (h : ¬ (0 ≤ w ∧ w ≤ 3)) : keyV q w = -1000000002 := by
  unfold keyV
  rw [if_neg (fun z => h (by rw [z]; decide)), if_neg (fun z => h (by rw [z]; decide)), if_neg (fun z => h (by rw [z]; decide)), if_neg (fun z => h (by rw [z]; decide))]
theorem upN {F : Nat → Nat} {i x : Nat} (hi : i < 10) : ∀ k, 10 ≤ k → va_up F i x k = F k := fun k hk => va_up_ne _ _ (by omega)
theorem upM {M : Nat → Nat} {i x : Nat} (hi : i < 100) : ∀ k, 100 ≤ k → va_up M i x k = M k := fun k hk => va_up_ne _ _ (by omega)
theorem upV {V : Nat → Nat → Int32} {i : Nat} {f : Nat → Int32} (hi : i < 19) : ∀ k, 19 ≤ k → va_up V i f k = V k := fun k hk => va_up_ne _ _ (by omega)
set_option maxHeartbeats 2000000 in
theorem op_key {l : Launch} {D : va_G} {dT : Nat → ClassId} {H0 : Heap} {r : Nat → Nat} {h : j_H} {nx : Nat} (hH : cw_H dT r h) (v w : Int32) : PAIR l D dT H0 yX0_key cX0_key 4 yX3_key cX3_key 3 [.int v, .int w] r h nx := by
  obtain ⟨g, F, V, kI, bs, fg, m, nk, a, M, tk, W, rfl, hP⟩ := hH
  obtain ⟨hT, hA, hI, hg, hD⟩ := id hP
  rcases hD with h0 | ⟨kd, ks, h1⟩
  · skip
    obtain ⟨rfl, rfl, rfl, rfl, rfl, rfl, f0, ⟨c60, h60⟩, f2, f4, hi0⟩ := h0
    have h60m := (md60 (r := r) (dT := dT) (g := g) (kI := -1) (bs := 0) (fg := 0) (m := 0) (nk := 0) (a := (0, 0, 0, 0)) (M := M) (tk := tk) (W := W) (i := 60) (by decide)).trans h60
    exact pr_q hP (f_key0 h60m v w no_0) jq_i.q (fun _ _ => m_key0 v w no_0) (fun _ _ => jq_i.mQ)
  · skip
    obtain ⟨rfl, hoD, hpw, hfg, hn8, h60, hK, hMK, hc1, rfl, hs, ht, hb, him⟩ := h1
    have h60m := (md60 (r := r) (dT := dT) (g := g) (kI := nI kd) (bs := bs) (fg := fg) (m := m) (nk := nk) (a := decA m (F 0)) (M := M) (tk := tk) (W := W) (i := 60) (by decide)).trans h60
    have hKm := hK.md (kI := nI kd) (bs := bs) (fg := fg) (m := m) (nk := nk) (a := decA m (F 0)) (M := M) (tk := tk) (W := W)
    have hm := hoD.pos
    have hm2 := hoD.le
    have hoA := decA_ok hm hs
    have hs8 : F 0 < 80000 := Nat.lt_of_lt_of_le hs (mm_le hm2)
    have h61m := hKm.1
    by_cases hv : 0 ≤ v ∧ v ≤ nI nk - 1
    · skip
      by_cases hw : 0 ≤ w ∧ w ≤ 3
      · skip
        have hz : 0 < nk := by
          refine Nat.pos_of_ne_zero (fun z => ?_)
          rw [z] at hv
          exact no_0 hv
        obtain ⟨k, rfl, hk⟩ := in_m hz (by omega) hv
        obtain ⟨u, rfl, -, hu⟩ := in_n (lo := 0) (hi := 3) (by decide) (by decide) hw
        exact pr_q hP (f_key1 h60m hKm k hk (nI u)) jq_i.q (fun _ _ => m_key1 k u hk hn8 (by omega)) (fun _ _ => jq_i.mE (key_m (hMK k hk).1 (by omega)))
      · skip
        have hz : 0 < nk := by
          refine Nat.pos_of_ne_zero (fun z => ?_)
          rw [z] at hv
          exact no_0 hv
        obtain ⟨k, hvk, hk⟩ := in_m hz (by omega) hv
        rw [hvk]
        rw [hvk] at hv
        exact pr_q hP (f_key1 h60m hKm k hk w) jq_i.q (fun _ _ => m_keyo (nI k) w hv hw) (fun _ _ => jq_i.mE (key_o hw).symm)
    · skip
      exact pr_q hP (f_key0 h60m v w hv) jq_i.q (fun _ _ => m_key0 v w hv) (fun _ _ => jq_i.mQ)
set_option maxHeartbeats 2000000 in
theorem op_strike {l : Launch} {D : va_G} {dT : Nat → ClassId} {H0 : Heap} {r : Nat → Nat} {h : j_H} {nx : Nat} (hH : cw_H dT r h) (v : Int32) : PAIR l D dT H0 yX0_strike cX0_strike 2 yX3_strike cX3_strike 2 [.int v] r h nx := by
  obtain ⟨g, F, V, kI, bs, fg, m, nk, a, M, tk, W, rfl, hP⟩ := hH
  obtain ⟨hT, hA, hI, hg, hD⟩ := id hP
  rcases hD with h0 | ⟨kd, ks, h1⟩
  · skip
    have h0k := h0
    obtain ⟨rfl, rfl, rfl, rfl, rfl, rfl, f0, ⟨c60, h60⟩, f2, f4, hi0⟩ := h0
    have h60m := (md60 (r := r) (dT := dT) (g := g) (kI := -1) (bs := 0) (fg := 0) (m := 0) (nk := 0) (a := (0, 0, 0, 0)) (M := M) (tk := tk) (W := W) (i := 60) (by decide)).trans h60
    exact pr_q hP (f_strike0 h60m v no_0) jq_i.q (fun _ _ => m_strike0 v no_0) (fun _ _ => jq_i.mQ)
  · skip
    have h1k := h1
    obtain ⟨rfl, hoD, hpw, hfg, hn8, h60, hK, hMK, hc1, rfl, hs, ht, hb, him⟩ := h1
    have h60m := (md60 (r := r) (dT := dT) (g := g) (kI := nI kd) (bs := bs) (fg := fg) (m := m) (nk := nk) (a := decA m (F 0)) (M := M) (tk := tk) (W := W) (i := 60) (by decide)).trans h60
    have hKm := hK.md (kI := nI kd) (bs := bs) (fg := fg) (m := m) (nk := nk) (a := decA m (F 0)) (M := M) (tk := tk) (W := W)
    have hm := hoD.pos
    have hm2 := hoD.le
    have hoA := decA_ok hm hs
    have hs8 : F 0 < 80000 := Nat.lt_of_lt_of_le hs (mm_le hm2)
    have h61m := hKm.1
    by_cases hv : 0 ≤ v ∧ v ≤ nI nk - 1
    · skip
      have hz : 0 < nk := by
        refine Nat.pos_of_ne_zero (fun z => ?_)
        rw [z] at hv
        exact no_0 hv
      obtain ⟨k, rfl, hk⟩ := in_m hz (by omega) hv
      obtain ⟨hq1, hq2⟩ := hMK k hk
      have hok := stk_ok hoD hq2 hoA
      have e1 : decA m (strk kd bs m (ks k) (F 0)) = stk kd bs m (ks k) (decA m (F 0)) := decA_encA hok
      have hmm := fun (V' : Nat → Nat → Int32) (F' : Nat → Nat) => m_strike1 (l := l) (D := D) (dT := dT) (H0 := H0) (r := r) (nx := nx) (g := fkS r dT g F' V') (fg := fg) (F := M) (tk := tk) (V := W) hoD hoA k (by omega) (ks k) hq2 hq1 hk hn8
      rw [← e1] at hmm
      refine pr_d (f_strike1 h60m hKm k hk hs) (hmm _ _) rfl ⟨hT.tr rfl rfl rfl rfl, ⟨hA.1, hA.2.1, hA.2.2.1, (by show F 1 + _ = M 25 + _; rw [hA.2.2.2.1]), hA.2.2.2.2.1, hA.2.2.2.2.2.1, hA.2.2.2.2.2.2.1, hA.2.2.2.2.2.2.2.1, hA.2.2.2.2.2.2.2.2.1, hA.2.2.2.2.2.2.2.2.2⟩, hI.tr (fun k hk => by rw [va_up_ne _ _ (by omega), va_up_ne _ _ (by omega)]) (upM (by decide)) (fun _ _ => rfl) rfl rfl, hg, Or.inr ⟨kd, ks, h1k.tr (fun k hk => by rw [va_up_ne _ _ (by omega), va_up_ne _ _ (by omega)]) rfl (strk_lt hoD hq2 hs) ht hb (fun _ _ => rfl) rfl rfl⟩⟩
    · skip
      exact pr_q hP (f_strike0 h60m v hv) jq_i.q (fun _ _ => m_strike0 v hv) (fun _ _ => jq_i.mQ)
set_option maxHeartbeats 2000000 in
theorem op_begin {l : Launch} {D : va_G} {dT : Nat → ClassId} {H0 : Heap} {r : Nat → Nat} {h : j_H} {nx : Nat} (hH : cw_H dT r h)  : PAIR l D dT H0 yX0_begin cX0_begin 2 yX3_begin cX3_begin 2 [] r h nx := by
  obtain ⟨g, F, V, kI, bs, fg, m, nk, a, M, tk, W, rfl, hP⟩ := hH
  obtain ⟨hT, hA, hI, hg, hD⟩ := id hP
  rcases hD with h0 | ⟨kd, ks, h1⟩
  · skip
    have h0k := h0
    obtain ⟨rfl, rfl, rfl, rfl, rfl, rfl, f0, ⟨c60, h60⟩, f2, f4, hi0⟩ := h0
    have h60m := (md60 (r := r) (dT := dT) (g := g) (kI := -1) (bs := 0) (fg := 0) (m := 0) (nk := 0) (a := (0, 0, 0, 0)) (M := M) (tk := tk) (W := W) (i := 60) (by decide)).trans h60
    refine pr_d (f_begin0 h60m) m_begin rfl ⟨(hT.tr rfl rfl rfl rfl), hA, (hI.tr (upN (by decide)) (fun _ _ => rfl) (fun _ _ => rfl) rfl rfl), hg, Or.inl (h0k.tr (upN (by decide)) rfl f2 f4 rfl)⟩
  · skip
    have h1k := h1
    obtain ⟨rfl, hoD, hpw, hfg, hn8, h60, hK, hMK, hc1, rfl, hs, ht, hb, him⟩ := h1
    have h60m := (md60 (r := r) (dT := dT) (g := g) (kI := nI kd) (bs := bs) (fg := fg) (m := m) (nk := nk) (a := decA m (F 0)) (M := M) (tk := tk) (W := W) (i := 60) (by decide)).trans h60
    have hKm := hK.md (kI := nI kd) (bs := bs) (fg := fg) (m := m) (nk := nk) (a := decA m (F 0)) (M := M) (tk := tk) (W := W)
    have hm := hoD.pos
    have hm2 := hoD.le
    have hoA := decA_ok hm hs
    have hs8 : F 0 < 80000 := Nat.lt_of_lt_of_le hs (mm_le hm2)
    have h61m := hKm.1
    have e0 : ((0, 0, 0, 0) : A4) = decA m 0 := by simp [decA, sW, sH, sS]
    refine pr_d (a' := (0, 0, 0, 0)) (f_begin1 h60m h61m hm hm2 hs8) m_begin rfl ⟨(hT.tr rfl rfl rfl rfl), hA, (hI.tr (upN (by decide)) (fun _ _ => rfl) (fun _ _ => rfl) rfl rfl), hg, Or.inr ⟨kd, ks, h1k.tr (upN (by decide)) e0 (by show 0 < 8 * m * m; omega) ht hb (fun _ _ => rfl) rfl rfl⟩⟩
set_option maxHeartbeats 2000000 in
theorem op_forget {l : Launch} {D : va_G} {dT : Nat → ClassId} {H0 : Heap} {r : Nat → Nat} {h : j_H} {nx : Nat} (hH : cw_H dT r h)  : PAIR l D dT H0 yX0_forget cX0_forget 2 yX3_forget cX3_forget 2 [] r h nx := by
  obtain ⟨g, F, V, kI, bs, fg, m, nk, a, M, tk, W, rfl, hP⟩ := hH
  obtain ⟨hT, hA, hI, hg, hD⟩ := id hP
  rcases hD with h0 | ⟨kd, ks, h1⟩
  · skip
    have h0k := h0
    obtain ⟨rfl, rfl, rfl, rfl, rfl, rfl, f0, ⟨c60, h60⟩, f2, f4, hi0⟩ := h0
    have h60m := (md60 (r := r) (dT := dT) (g := g) (kI := -1) (bs := 0) (fg := 0) (m := 0) (nk := 0) (a := (0, 0, 0, 0)) (M := M) (tk := tk) (W := W) (i := 60) (by decide)).trans h60
    refine pr_d f_forget m_forget (by rw [hA.2.2.2.2.1]) ⟨(hT.tr rfl rfl rfl rfl), ⟨hA.1, hA.2.1, hA.2.2.1, hA.2.2.2.1, rfl, (Nat.zero_le _), hA.2.2.2.2.2.2.1, hA.2.2.2.2.2.2.2.1, hA.2.2.2.2.2.2.2.2.1, hA.2.2.2.2.2.2.2.2.2⟩, hI.tr (upN (by decide)) (upM (by decide)) (fun _ _ => rfl) rfl rfl, hg, Or.inl (h0k.tr (upN (by decide)) f0 rfl f4 rfl)⟩
  · skip
    have h1k := h1
    obtain ⟨rfl, hoD, hpw, hfg, hn8, h60, hK, hMK, hc1, rfl, hs, ht, hb, him⟩ := h1
    have h60m := (md60 (r := r) (dT := dT) (g := g) (kI := nI kd) (bs := bs) (fg := fg) (m := m) (nk := nk) (a := decA m (F 0)) (M := M) (tk := tk) (W := W) (i := 60) (by decide)).trans h60
    have hKm := hK.md (kI := nI kd) (bs := bs) (fg := fg) (m := m) (nk := nk) (a := decA m (F 0)) (M := M) (tk := tk) (W := W)
    have hm := hoD.pos
    have hm2 := hoD.le
    have hoA := decA_ok hm hs
    have hs8 : F 0 < 80000 := Nat.lt_of_lt_of_le hs (mm_le hm2)
    have h61m := hKm.1
    refine pr_d f_forget m_forget (by rw [hA.2.2.2.2.1]) ⟨(hT.tr rfl rfl rfl rfl), ⟨hA.1, hA.2.1, hA.2.2.1, hA.2.2.2.1, rfl, (Nat.zero_le _), hA.2.2.2.2.2.2.1, hA.2.2.2.2.2.2.2.1, hA.2.2.2.2.2.2.2.2.1, hA.2.2.2.2.2.2.2.2.2⟩, hI.tr (upN (by decide)) (upM (by decide)) (fun _ _ => rfl) rfl rfl, hg, Or.inr ⟨kd, ks, h1k.tr (upN (by decide)) rfl hs (fun i hi => absurd hi (Nat.not_lt_zero _)) hb (fun _ _ => rfl) rfl rfl⟩⟩
set_option maxHeartbeats 2000000 in
theorem op_tear {l : Launch} {D : va_G} {dT : Nat → ClassId} {H0 : Heap} {r : Nat → Nat} {h : j_H} {nx : Nat} (hH : cw_H dT r h)  : PAIR l D dT H0 yX0_tear cX0_tear 2 yX3_tear cX3_tear 2 [] r h nx := by
  obtain ⟨g, F, V, kI, bs, fg, m, nk, a, M, tk, W, rfl, hP⟩ := hH
  obtain ⟨hT, hA, hI, hg, hD⟩ := id hP
  rcases hD with h0 | ⟨kd, ks, h1⟩
  · skip
    have h0k := h0
    obtain ⟨rfl, rfl, rfl, rfl, rfl, rfl, f0, ⟨c60, h60⟩, f2, f4, hi0⟩ := h0
    have h60m := (md60 (r := r) (dT := dT) (g := g) (kI := -1) (bs := 0) (fg := 0) (m := 0) (nk := 0) (a := (0, 0, 0, 0)) (M := M) (tk := tk) (W := W) (i := 60) (by decide)).trans h60
    refine pr_d f_tear m_tear (by rw [hA.2.2.2.2.2.2.2.1]) ⟨(hT.tr rfl rfl rfl rfl), ⟨hA.1, hA.2.1, hA.2.2.1, hA.2.2.2.1, hA.2.2.2.2.1, hA.2.2.2.2.2.1, hA.2.2.2.2.2.2.1, rfl, (Nat.zero_le _), hA.2.2.2.2.2.2.2.2.2⟩, hI.tr (upN (by decide)) (upM (by decide)) (fun _ _ => rfl) rfl rfl, hg, Or.inl (h0k.tr (upN (by decide)) f0 f2 rfl rfl)⟩
  · skip
    have h1k := h1
    obtain ⟨rfl, hoD, hpw, hfg, hn8, h60, hK, hMK, hc1, rfl, hs, ht, hb, him⟩ := h1
    have h60m := (md60 (r := r) (dT := dT) (g := g) (kI := nI kd) (bs := bs) (fg := fg) (m := m) (nk := nk) (a := decA m (F 0)) (M := M) (tk := tk) (W := W) (i := 60) (by decide)).trans h60
    have hKm := hK.md (kI := nI kd) (bs := bs) (fg := fg) (m := m) (nk := nk) (a := decA m (F 0)) (M := M) (tk := tk) (W := W)
    have hm := hoD.pos
    have hm2 := hoD.le
    have hoA := decA_ok hm hs
    have hs8 : F 0 < 80000 := Nat.lt_of_lt_of_le hs (mm_le hm2)
    have h61m := hKm.1
    refine pr_d f_tear m_tear (by rw [hA.2.2.2.2.2.2.2.1]) ⟨(hT.tr rfl rfl rfl rfl), ⟨hA.1, hA.2.1, hA.2.2.1, hA.2.2.2.1, hA.2.2.2.2.1, hA.2.2.2.2.2.1, hA.2.2.2.2.2.2.1, rfl, (Nat.zero_le _), hA.2.2.2.2.2.2.2.2.2⟩, hI.tr (upN (by decide)) (upM (by decide)) (fun _ _ => rfl) rfl rfl, hg, Or.inr ⟨kd, ks, h1k.tr (upN (by decide)) rfl hs ht (fun i hi => absurd hi (Nat.not_lt_zero _)) (fun _ _ => rfl) rfl rfl⟩⟩
set_option maxHeartbeats 2000000 in
theorem op_seed {l : Launch} {D : va_G} {dT : Nat → ClassId} {H0 : Heap} {r : Nat → Nat} {h : j_H} {nx : Nat} (hH : cw_H dT r h) (v : Int32) : PAIR l D dT H0 yX0_seed cX0_seed 3 yX3_seed cX3_seed 3 [.int v] r h nx := by
  obtain ⟨g, F, V, kI, bs, fg, m, nk, a, M, tk, W, rfl, hP⟩ := hH
  obtain ⟨hT, hA, hI, hg, hD⟩ := id hP
  by_cases hv : 0 ≤ v
  · skip
    obtain ⟨k, rfl, hk⟩ : ∃ k, v = nI k ∧ k < 2 ^ 31 := by
      have h1 := Int32.le_iff_toInt_le.mp hv
      have e0 : (0 : Int32).toInt = 0 := by decide
      rw [e0] at h1
      have h2 := Int32.toInt_lt v
      exact ⟨v.toInt.toNat, Int32.toInt_inj.mp (by rw [nI_toInt (by omega)]; omega), by omega⟩
    rcases hD with h0 | ⟨kd, ks, h1⟩
    · skip
      have h0k := h0
      obtain ⟨rfl, rfl, rfl, rfl, rfl, rfl, f0, ⟨c60, h60⟩, f2, f4, hi0⟩ := h0
      have h60m := (md60 (r := r) (dT := dT) (g := g) (kI := -1) (bs := 0) (fg := 0) (m := 0) (nk := 0) (a := (0, 0, 0, 0)) (M := M) (tk := tk) (W := W) (i := 60) (by decide)).trans h60
      refine pr_d (f_seed1 k hk) (m_seed1 k hk) (by rw [hA.2.1]) ⟨(hT.tr rfl rfl rfl rfl), ⟨hA.1, rfl, hk, hA.2.2.2.1, hA.2.2.2.2.1, hA.2.2.2.2.2.1, hA.2.2.2.2.2.2.1, hA.2.2.2.2.2.2.2.1, hA.2.2.2.2.2.2.2.2.1, hA.2.2.2.2.2.2.2.2.2⟩, hI.tr (upN (by decide)) (upM (by decide)) (fun _ _ => rfl) rfl rfl, hg, Or.inl (h0k.tr (upN (by decide)) f0 f2 f4 rfl)⟩
    · skip
      have h1k := h1
      obtain ⟨rfl, hoD, hpw, hfg, hn8, h60, hK, hMK, hc1, rfl, hs, ht, hb, him⟩ := h1
      have h60m := (md60 (r := r) (dT := dT) (g := g) (kI := nI kd) (bs := bs) (fg := fg) (m := m) (nk := nk) (a := decA m (F 0)) (M := M) (tk := tk) (W := W) (i := 60) (by decide)).trans h60
      have hKm := hK.md (kI := nI kd) (bs := bs) (fg := fg) (m := m) (nk := nk) (a := decA m (F 0)) (M := M) (tk := tk) (W := W)
      have hm := hoD.pos
      have hm2 := hoD.le
      have hoA := decA_ok hm hs
      have hs8 : F 0 < 80000 := Nat.lt_of_lt_of_le hs (mm_le hm2)
      have h61m := hKm.1
      refine pr_d (f_seed1 k hk) (m_seed1 k hk) (by rw [hA.2.1]) ⟨(hT.tr rfl rfl rfl rfl), ⟨hA.1, rfl, hk, hA.2.2.2.1, hA.2.2.2.2.1, hA.2.2.2.2.2.1, hA.2.2.2.2.2.2.1, hA.2.2.2.2.2.2.2.1, hA.2.2.2.2.2.2.2.2.1, hA.2.2.2.2.2.2.2.2.2⟩, hI.tr (upN (by decide)) (upM (by decide)) (fun _ _ => rfl) rfl rfl, hg, Or.inr ⟨kd, ks, h1k.tr (upN (by decide)) rfl hs ht hb (fun _ _ => rfl) rfl rfl⟩⟩
  · skip
    exact pr_q hP (f_seed0 v hv) jq_i.q (fun _ _ => m_seed0 v hv) (fun _ _ => jq_i.mQ)
set_option maxHeartbeats 2000000 in
theorem op_target {l : Launch} {D : va_G} {dT : Nat → ClassId} {H0 : Heap} {r : Nat → Nat} {h : j_H} {nx : Nat} (hH : cw_H dT r h) (v : Int32) : PAIR l D dT H0 yX0_target cX0_target 2 yX3_target cX3_target 2 [.int v] r h nx := by
  obtain ⟨g, F, V, kI, bs, fg, m, nk, a, M, tk, W, rfl, hP⟩ := hH
  obtain ⟨hT, hA, hI, hg, hD⟩ := id hP
  rcases hD with h0 | ⟨kd, ks, h1⟩
  · skip
    have h0k := h0
    obtain ⟨rfl, rfl, rfl, rfl, rfl, rfl, f0, ⟨c60, h60⟩, f2, f4, hi0⟩ := h0
    have h60m := (md60 (r := r) (dT := dT) (g := g) (kI := -1) (bs := 0) (fg := 0) (m := 0) (nk := 0) (a := (0, 0, 0, 0)) (M := M) (tk := tk) (W := W) (i := 60) (by decide)).trans h60
    exact pr_q hP (f_target0o h60m v no_0) jq_i.q (fun _ _ => m_targeto v no_0) (fun _ _ => jq_i.mQ)
  · skip
    have h1k := h1
    obtain ⟨rfl, hoD, hpw, hfg, hn8, h60, hK, hMK, hc1, rfl, hs, ht, hb, him⟩ := h1
    have h60m := (md60 (r := r) (dT := dT) (g := g) (kI := nI kd) (bs := bs) (fg := fg) (m := m) (nk := nk) (a := decA m (F 0)) (M := M) (tk := tk) (W := W) (i := 60) (by decide)).trans h60
    have hKm := hK.md (kI := nI kd) (bs := bs) (fg := fg) (m := m) (nk := nk) (a := decA m (F 0)) (M := M) (tk := tk) (W := W)
    have hm := hoD.pos
    have hm2 := hoD.le
    have hoA := decA_ok hm hs
    have hs8 : F 0 < 80000 := Nat.lt_of_lt_of_le hs (mm_le hm2)
    have h61m := hKm.1
    by_cases hv : 0 ≤ v ∧ v ≤ nI m - 1
    · skip
      by_cases h6 : F 2 = 6
      · skip
        exact pr_q hP (f_target1f h60m h61m hm hm2 v hv h6) jq_i.q (fun _ _ => m_targetf v hv (by rw [← hA.2.2.2.2.1]; exact h6)) (fun _ _ => jq_i.mQ)
      · skip
        have e2 := hA.2.2.2.2.1
        have hlt : F 2 < 6 := by have := hA.2.2.2.2.2.1; omega
        refine pr_d (f_target1 h60m h61m hm hm2 v hv hlt) (m_target1 v hv (by rw [← e2]; exact hlt)) (by rw [e2]) ⟨(hT.tr rfl rfl rfl rfl), ⟨hA.1, hA.2.1, hA.2.2.1, hA.2.2.2.1, (by show F 2 + 1 = M 27 + 1; rw [e2]), hlt, (fun k hk => ?_), hA.2.2.2.2.2.2.2.1, hA.2.2.2.2.2.2.2.2.1, hA.2.2.2.2.2.2.2.2.2⟩, hI.tr (upN (by decide)) (upM (by decide)) (upV (by decide)) rfl rfl, hg, Or.inr ⟨kd, ks, h1k.tr (upN (by decide)) rfl hs (fun i hi => ?_) hb (upV (by decide)) rfl rfl⟩⟩
        · show upd (V 2) (F 2) v k = upd (W 104) (M 27) v k
          unfold upd
          rw [← e2, hA.2.2.2.2.2.2.1 k hk]
        · show 0 ≤ upd (V 2) (F 2) v i ∧ upd (V 2) (F 2) v i ≤ nI m - 1
          have hi : i < F 2 + 1 := hi
          unfold upd
          by_cases e : i = F 2
          · rw [if_pos e]; exact hv
          · rw [if_neg e]; exact ht i (by omega)
    · skip
      exact pr_q hP (f_target1o h60m h61m hm hm2 v hv) jq_i.q (fun _ _ => m_targeto v hv) (fun _ _ => jq_i.mQ)
set_option maxHeartbeats 2000000 in
theorem op_write {l : Launch} {D : va_G} {dT : Nat → ClassId} {H0 : Heap} {r : Nat → Nat} {h : j_H} {nx : Nat} (hH : cw_H dT r h) (v w : Int32) : PAIR l D dT H0 yX0_write cX0_write 3 yX3_write cX3_write 3 [.int v, .int w] r h nx := by
  obtain ⟨g, F, V, kI, bs, fg, m, nk, a, M, tk, W, rfl, hP⟩ := hH
  obtain ⟨hT, hA, hI, hg, hD⟩ := id hP
  rcases hD with h0 | ⟨kd, ks, h1⟩
  · skip
    have h0k := h0
    obtain ⟨rfl, rfl, rfl, rfl, rfl, rfl, f0, ⟨c60, h60⟩, f2, f4, hi0⟩ := h0
    have h60m := (md60 (r := r) (dT := dT) (g := g) (kI := -1) (bs := 0) (fg := 0) (m := 0) (nk := 0) (a := (0, 0, 0, 0)) (M := M) (tk := tk) (W := W) (i := 60) (by decide)).trans h60
    exact pr_q hP (f_write0 h60m v w no_0) jq_i.q (fun _ _ => m_write0 v w no_0) (fun _ _ => jq_i.mQ)
  · skip
    have h1k := h1
    obtain ⟨rfl, hoD, hpw, hfg, hn8, h60, hK, hMK, hc1, rfl, hs, ht, hb, him⟩ := h1
    have h60m := (md60 (r := r) (dT := dT) (g := g) (kI := nI kd) (bs := bs) (fg := fg) (m := m) (nk := nk) (a := decA m (F 0)) (M := M) (tk := tk) (W := W) (i := 60) (by decide)).trans h60
    have hKm := hK.md (kI := nI kd) (bs := bs) (fg := fg) (m := m) (nk := nk) (a := decA m (F 0)) (M := M) (tk := tk) (W := W)
    have hm := hoD.pos
    have hm2 := hoD.le
    have hoA := decA_ok hm hs
    have hs8 : F 0 < 80000 := Nat.lt_of_lt_of_le hs (mm_le hm2)
    have h61m := hKm.1
    by_cases hv : 0 ≤ v ∧ v ≤ nI nk - 1
    · skip
      by_cases hw : 0 ≤ w ∧ w ≤ nI m - 1
      · skip
        by_cases h4 : F 4 = 40
        · skip
          exact pr_q hP (f_writef h60m h61m hm hm2 v w hv hw h4) jq_i.q (fun _ _ => m_writef v w hv hw (by rw [← hA.2.2.2.2.2.2.2.1]; exact h4)) (fun _ _ => jq_i.mQ)
        · skip
          have e4 := hA.2.2.2.2.2.2.2.1
          have hlt : F 4 < 40 := by have := hA.2.2.2.2.2.2.2.2.1; omega
          refine pr_d (f_write1 h60m h61m hm hm2 v w hv hw hlt) (m_write1 v w hv hw (by rw [← e4]; exact hlt)) (by rw [e4]) ⟨(hT.tr rfl rfl rfl rfl), ⟨hA.1, hA.2.1, hA.2.2.1, hA.2.2.2.1, hA.2.2.2.2.1, hA.2.2.2.2.2.1, hA.2.2.2.2.2.2.1, (by show F 4 + 1 = M 29 + 1; rw [e4]), hlt, (fun i hi => ?_)⟩, hI.tr (upN (by decide)) (upM (by decide)) (fun k hk => by rw [va_up_ne _ _ (by omega), va_up_ne _ _ (by omega)]) rfl rfl, hg, Or.inr ⟨kd, ks, h1k.tr (upN (by decide)) rfl hs ht (fun i hi => ?_) (fun k hk => by rw [va_up_ne _ _ (by omega), va_up_ne _ _ (by omega)]) rfl rfl⟩⟩
          · show upd (V 3) (F 4) v i = upd (upd (W 105) (2 * M 29) v) (2 * M 29 + 1) w (2 * i) ∧ upd (V 4) (F 4) w i = upd (upd (W 105) (2 * M 29) v) (2 * M 29 + 1) w (2 * i + 1)
            obtain ⟨b1, b2⟩ := hA.2.2.2.2.2.2.2.2.2 i hi
            unfold upd
            rw [← e4]
            by_cases e : i = F 4
            · rw [if_pos e, if_pos e, if_neg (by omega), if_pos (by omega), if_pos (by omega)]; exact ⟨rfl, rfl⟩
            · rw [if_neg e, if_neg e, if_neg (by omega), if_neg (by omega), if_neg (by omega), if_neg (by omega)]; exact ⟨b1, b2⟩
          · show 0 ≤ upd (V 3) (F 4) v i ∧ upd (V 3) (F 4) v i ≤ nI nk - 1
            have hi : i < F 4 + 1 := hi
            unfold upd
            by_cases e : i = F 4
            · rw [if_pos e]; exact hv
            · rw [if_neg e]; exact hb i (by omega)
      · skip
        exact pr_q hP (f_writeo h60m h61m hm hm2 v w hv hw) jq_i.q (fun _ _ => m_writeo v w hv hw) (fun _ _ => jq_i.mQ)
    · skip
      exact pr_q hP (f_write0 h60m v w hv) jq_i.q (fun _ _ => m_write0 v w hv) (fun _ _ => jq_i.mQ)
theorem dst_eq {rn : Nat → Nat} {kd bs m nk : Nat} {ks : Nat → KY} (hoD : okD kd bs m) (hks : ∀ k, k < nk → okK bs m (ks k)) (hnk : 0 < nk) : ∀ n (F : Nat → Nat), F 0 < 8 * m * m → dstA rn (fun k a => stk kd bs m (ks k) a) (fun k => (ks k).2.1) nk n (decA m (F 0), F 1, F 3) = (decA m (dsteps rn kd bs m nk ks n F 0), dsteps rn kd bs m nk ks n F 1, dsteps rn kd bs m nk ks n F 3) ∧ dsteps rn kd bs m nk ks n F 0 < 8 * m * m ∧ ∀ k, k ≠ 0 → k ≠ 1 → k ≠ 3 → dsteps rn kd bs m nk ks n F k = F k
  | 0, F, hs => ⟨rfl, hs, fun _ _ _ _ => rfl⟩
  | n + 1, F, hs => by
    have hk := hks (rn (F 3) / 65536 % nk) (Nat.mod_lt _ hnk)
    have hok := stk_ok hoD hk (decA_ok hoD.pos hs)
    have e1 : decA m (strk kd bs m (ks (rn (F 3) / 65536 % nk)) (F 0)) = stk kd bs m (ks (rn (F 3) / 65536 % nk)) (decA m (F 0)) := decA_encA hok
    have ih := dst_eq (rn := rn) hoD hks hnk n (dstep rn kd bs m nk ks F) (strk_lt hoD hk hs)
    obtain ⟨i1, i2, i3⟩ := ih
    refine ⟨?_, i2, fun k h0 h1 h3 => ?_⟩
    · rw [dstA, dsteps, ← i1]
      show dstA rn _ _ nk n (stk kd bs m (ks (rn (F 3) / 65536 % nk)) (decA m (F 0)), _, _) = dstA rn _ _ nk n (decA m (strk kd bs m (ks (rn (F 3) / 65536 % nk)) (F 0)), _, _)
      rw [e1]
      rfl
    · rw [dsteps, i3 k h0 h1 h3]
      unfold dstep
      rw [va_up_ne _ _ h1, va_up_ne _ _ h0, va_up_ne _ _ h3]
theorem dst_lt {rn : Nat → Nat} (hrn : rn = rnd) {kd bs m nk : Nat} {ks : Nat → KY} : ∀ n (F : Nat → Nat), F 3 < 2 ^ 31 → dsteps rn kd bs m nk ks n F 3 < 2 ^ 31
  | 0, F, h => h
  | n + 1, F, h => by
    rw [dsteps]
    exact dst_lt hrn n _ (rn_lt hrn (F 3))
set_option maxHeartbeats 2000000 in
theorem op_drift {l : Launch} {D : va_G} {dT : Nat → ClassId} {H0 : Heap} {r : Nat → Nat} {h : j_H} {nx : Nat} (hH : cw_H dT r h) (v : Int32) : PAIR l D dT H0 yX0_drift cX0_drift 3 yX3_drift cX3_drift 4 [.int v] r h nx := by
  obtain ⟨g, F, V, kI, bs, fg, m, nk, a, M, tk, W, rfl, hP⟩ := hH
  obtain ⟨hT, hA, hI, hg, hD⟩ := id hP
  by_cases hv : 1 ≤ v ∧ v ≤ 999
  · skip
    rcases hD with h0 | ⟨kd, ks, h1⟩
    · skip
      have h0k := h0
      obtain ⟨rfl, rfl, rfl, rfl, rfl, rfl, f0, ⟨c60, h60⟩, f2, f4, hi0⟩ := h0
      have h60m := (md60 (r := r) (dT := dT) (g := g) (kI := -1) (bs := 0) (fg := 0) (m := 0) (nk := 0) (a := (0, 0, 0, 0)) (M := M) (tk := tk) (W := W) (i := 60) (by decide)).trans h60
      exact pr_q hP (f_drift0 h60m rfl v hv) jq_i.q (fun _ _ => m_drift0 v hv rfl) (fun _ _ => jq_i.mQ)
    · skip
      have h1k := h1
      obtain ⟨rfl, hoD, hpw, hfg, hn8, h60, hK, hMK, hc1, rfl, hs, ht, hb, him⟩ := h1
      have h60m := (md60 (r := r) (dT := dT) (g := g) (kI := nI kd) (bs := bs) (fg := fg) (m := m) (nk := nk) (a := decA m (F 0)) (M := M) (tk := tk) (W := W) (i := 60) (by decide)).trans h60
      have hKm := hK.md (kI := nI kd) (bs := bs) (fg := fg) (m := m) (nk := nk) (a := decA m (F 0)) (M := M) (tk := tk) (W := W)
      have hm := hoD.pos
      have hm2 := hoD.le
      have hoA := decA_ok hm hs
      have hs8 : F 0 < 80000 := Nat.lt_of_lt_of_le hs (mm_le hm2)
      have h61m := hKm.1
      by_cases hn0 : nk = 0
      · skip
        exact pr_q hP (f_drift0 h60m hn0 v hv) jq_i.q (fun _ _ => m_drift0 v hv hn0) (fun _ _ => jq_i.mQ)
      · skip
        have hnk : 0 < nk := Nat.pos_of_ne_zero hn0
        obtain ⟨n, rfl, hn1, hn2⟩ := in_n (lo := 1) (hi := 999) (by decide) (by decide) hv
        obtain ⟨rn, hrn⟩ : ∃ rn : Nat → Nat, rn = rnd := ⟨_, rfl⟩
        obtain ⟨d1, d2, d3⟩ := dst_eq (rn := rn) hoD (fun k hk => (hMK k hk).2) hnk n F hs
        have d4 := dst_lt hrn (kd := kd) (bs := bs) (m := m) (nk := nk) (ks := ks) n F hA.2.2.1
        have hmm := fun (V' : Nat → Nat → Int32) (F' : Nat → Nat) => m_drift1 (l := l) (D := D) (dT := dT) (H0 := H0) (r := r) (nx := nx) (g := fkS r dT g F' V') (fg := fg) (F := M) (tk := tk) (V := W) hoD hoA hMK hn8 hrn hnk n ⟨hn1, hn2⟩ (by rw [← hA.2.1]; exact hA.2.2.1)
        rw [← hA.2.2.2.1, ← hA.2.1, d1] at hmm
        have hx := f_drift1 (l := l) (D := D) (H0 := H0) (nx := nx) (V := V) (F := F) h60m hKm hrn hnk n ⟨hn1, hn2⟩ hs hA.2.2.1
        generalize dsteps rn kd bs m nk ks n F = F' at d1 d2 d3 d4 hx hmm
        refine pr_d hx (hmm _ _) rfl ⟨hT.tr (d3 5 (by decide) (by decide) (by decide)) rfl rfl rfl, ⟨(d3 6 (by decide) (by decide) (by decide)).trans hA.1, rfl, d4, rfl, (d3 2 (by decide) (by decide) (by decide)).trans hA.2.2.2.2.1, by rw [d3 2 (by decide) (by decide) (by decide)]; exact hA.2.2.2.2.2.1, hA.2.2.2.2.2.2.1, (d3 4 (by decide) (by decide) (by decide)).trans hA.2.2.2.2.2.2.2.1, by rw [d3 4 (by decide) (by decide) (by decide)]; exact hA.2.2.2.2.2.2.2.2.1, hA.2.2.2.2.2.2.2.2.2⟩, hI.tr (fun k hk => d3 k (by omega) (by omega) (by omega)) (fun k hk => by unfold mdFz; rw [va_up_ne _ _ (by omega), va_up_ne _ _ (by omega)]) (fun _ _ => rfl) rfl rfl, hg, Or.inr ⟨kd, ks, h1k.tr (fun k hk => d3 k (by omega) (by omega) (by omega)) rfl d2 (by rw [d3 2 (by decide) (by decide) (by decide)]; exact ht) (by rw [d3 4 (by decide) (by decide) (by decide)]; exact hb) (fun _ _ => rfl) rfl rfl⟩⟩
  · skip
    exact pr_q hP (f_drifto v hv) jq_i.q (fun _ _ => m_drifto v hv) (fun _ _ => jq_i.mQ)
set_option maxHeartbeats 2000000 in
theorem op_game {l : Launch} {D : va_G} {dT : Nat → ClassId} {H0 : Heap} {r : Nat → Nat} {h : j_H} {nx : Nat} (hH : cw_H dT r h) (v w u : Int32) : PAIR l D dT H0 yX0_game cX0_game 7 yX3_game cX3_game 8 [.int v, .int w, .int u] r h nx := by
  obtain ⟨g, F, V, kI, bs, fg, m, nk, a, M, tk, W, rfl, hP⟩ := hH
  obtain ⟨hT, hA, hI, hg, hD⟩ := id hP
  rcases hD with h0 | ⟨kd, ks, h1⟩
  · skip
    obtain ⟨rfl, rfl, rfl, rfl, rfl, rfl, f0, ⟨c60, h60⟩, f2, f4, hi0⟩ := h0
    have h60m := (md60 (r := r) (dT := dT) (g := g) (kI := -1) (bs := 0) (fg := 0) (m := 0) (nk := 0) (a := (0, 0, 0, 0)) (M := M) (tk := tk) (W := W) (i := 60) (by decide)).trans h60
    exact pr_q hP (f_game0o h60m v w u) jq_i.q (fun _ _ => m_gameo v w u (fun z => no_0 z.1)) (fun _ _ => jq_i.mQ)
  · skip
    obtain ⟨rfl, hoD, hpw, hfg, hn8, h60, hK, hMK, hc1, rfl, hs, ht, hb, him⟩ := h1
    have h60m := (md60 (r := r) (dT := dT) (g := g) (kI := nI kd) (bs := bs) (fg := fg) (m := m) (nk := nk) (a := decA m (F 0)) (M := M) (tk := tk) (W := W) (i := 60) (by decide)).trans h60
    have hKm := hK.md (kI := nI kd) (bs := bs) (fg := fg) (m := m) (nk := nk) (a := decA m (F 0)) (M := M) (tk := tk) (W := W)
    have hm := hoD.pos
    have hm2 := hoD.le
    have hoA := decA_ok hm hs
    have hs8 : F 0 < 80000 := Nat.lt_of_lt_of_le hs (mm_le hm2)
    have h61m := hKm.1
    by_cases hv : (0 ≤ v ∧ v ≤ nI m - 1) ∧ (0 ≤ w ∧ w ≤ 6) ∧ (0 ≤ u ∧ u ≤ 1)
    · skip
      obtain ⟨hv, hw, hu⟩ := hv
      obtain ⟨k, rfl, hk⟩ := in_m hm (by omega) hv
      obtain ⟨n, rfl, -, hn⟩ := in_n (lo := 0) (hi := 6) (by decide) (by decide) hw
      have ck : n = 0 ∨ n = 1 ∨ n = 2 ∨ n = 3 ∨ n = 4 ∨ n = 5 ∨ n = 6 := by omega
      rcases ck with rfl | rfl | rfl | rfl | rfl | rfl | rfl
      · exact pr_q hP (f_game0 h60m hKm k u hk hu hs) jq_i.q (fun _ _ => m_game0 hm hm2 k 0 u hk (by decide) hu (Or.inl rfl)) (fun _ _ => jq_i.mE rfl)
      · by_cases hz : nk = 0
        · skip
          exact pr_q hP (f_game1 h60m hKm k u hk hu hs) jq_i.q (fun _ _ => m_game0 hm hm2 k 1 u hk (by decide) hu (Or.inr hz)) (fun _ _ => jq_i.mE (by subst hz; rfl))
        · skip
          exact pr_q hP (f_game1 h60m hKm k u hk hu hs) jq_i.q (fun _ _ => m_game1 hoD hoA hMK hn8 (Nat.pos_of_ne_zero hz) k 1 u hk (by decide) hu) (fun _ _ => jq_m.mE rfl)
      · by_cases hz : nk = 0
        · skip
          exact pr_q hP (f_game2 h60m hKm k u hk hu hs) jq_i.q (fun _ _ => m_game0 hm hm2 k 2 u hk (by decide) hu (Or.inr hz)) (fun _ _ => jq_i.mE (by subst hz; rfl))
        · skip
          exact pr_q hP (f_game2 h60m hKm k u hk hu hs) jq_i.q (fun _ _ => m_game1 hoD hoA hMK hn8 (Nat.pos_of_ne_zero hz) k 2 u hk (by decide) hu) (fun _ _ => jq_m.mE rfl)
      · by_cases hz : nk = 0
        · skip
          exact pr_q hP (f_game3 h60m hKm k u hk hu hs) jq_i.q (fun _ _ => m_game0 hm hm2 k 3 u hk (by decide) hu (Or.inr hz)) (fun _ _ => jq_i.mE (by subst hz; rfl))
        · skip
          exact pr_q hP (f_game3 h60m hKm k u hk hu hs) jq_i.q (fun _ _ => m_game1 hoD hoA hMK hn8 (Nat.pos_of_ne_zero hz) k 3 u hk (by decide) hu) (fun _ _ => jq_m.mE rfl)
      · by_cases hz : nk = 0
        · skip
          exact pr_q hP (f_game4 h60m hKm k u hk hu hs) jq_i.q (fun _ _ => m_game0 hm hm2 k 4 u hk (by decide) hu (Or.inr hz)) (fun _ _ => jq_i.mE (by subst hz; rfl))
        · skip
          exact pr_q hP (f_game4 h60m hKm k u hk hu hs) jq_i.q (fun _ _ => m_game1 hoD hoA hMK hn8 (Nat.pos_of_ne_zero hz) k 4 u hk (by decide) hu) (fun _ _ => jq_m.mE rfl)
      · by_cases hz : nk = 0
        · skip
          exact pr_q hP (f_game5 h60m hKm k u hk hu hs) jq_i.q (fun _ _ => m_game0 hm hm2 k 5 u hk (by decide) hu (Or.inr hz)) (fun _ _ => jq_i.mE (by subst hz; rfl))
        · skip
          exact pr_q hP (f_game5 h60m hKm k u hk hu hs) jq_i.q (fun _ _ => m_game1 hoD hoA hMK hn8 (Nat.pos_of_ne_zero hz) k 5 u hk (by decide) hu) (fun _ _ => jq_m.mE rfl)
      · by_cases hz : nk = 0
        · skip
          exact pr_q hP (f_game6 h60m hKm k u hk hu hs) jq_i.q (fun _ _ => m_game0 hm hm2 k 6 u hk (by decide) hu (Or.inr hz)) (fun _ _ => jq_i.mE (by subst hz; rfl))
        · skip
          exact pr_q hP (f_game6 h60m hKm k u hk hu hs) jq_i.q (fun _ _ => m_game1 hoD hoA hMK hn8 (Nat.pos_of_ne_zero hz) k 6 u hk (by decide) hu) (fun _ _ => jq_m.mE rfl)
    · skip
      exact pr_q hP (f_game1o h60m hKm v w u hv) jq_i.q (fun _ _ => m_gameo v w u hv) (fun _ _ => jq_i.mQ)
