set_option maxRecDepth 100000
theorem pr_e {l : Launch} {D : va_G} {dT : Nat → ClassId} {H0 : Heap} {r : Nat → Nat} {nx : Nat} {g : j_H} {F : Nat → Nat} {V : Nat → Nat → Int32} {kI : Int32} {bs fg m nk : Nat} {a : A4} {M : Nat → Nat} {tk : Int64} {W : Nat → Nat → Int32} {yx ym : MethodName} {cx cm : ByteArray} {nLx dx nLm dm : Nat} {A : List Value} {v : Int32} {F' : Nat → Nat} {V' : Nat → Nat → Int32} {Qm : j_Q} (hx : MC (gG l D dT H0) yx cx nLx (some .int) dx 0 0 (.ref (r 0) :: A) r (fkS r dT (mdS r dT g kI bs fg m nk a.1 a.2.1 a.2.2.1 a.2.2.2 M tk W) F V) nx (jq_i v r (fkS r dT (mdS r dT g kI bs fg m nk a.1 a.2.1 a.2.2.1 a.2.2.2 M tk W) F' V') nx)) (hm : MC (gG l D dT H0) ym cm nLm (some .int) dm 0 0 (.ref (r 100) :: A) r (mdS r dT (fkS r dT g F' V') kI bs fg m nk a.1 a.2.1 a.2.2.1 a.2.2.2 M tk W) nx Qm) (hQ : ∀ o r2 h2 nx2, Qm o r2 h2 nx2 → o = .returned (some (.int v)) ∧ r2 = r ∧ cw_H dT r h2) (hdx : dx ≤ 16 := by decide) (hdm : dm ≤ 16 := by decide) : PAIR l D dT H0 yx cx nLx ym cm nLm A r (mdS r dT (fkS r dT g F V) kI bs fg m nk a.1 a.2.1 a.2.2.1 a.2.2.2 M tk W) nx := by
  rw [← fm_comm]
  refine ⟨v, dx, 0, 0, hdx, by decide, by decide, hx.weak (fun o r' h' nx' hq => ?_)⟩
  obtain ⟨e1, e2, e3, e4⟩ := hq
  subst e1; subst e2; subst e3; subst e4
  rw [fm_comm]
  refine ⟨rfl, rfl, rfl, ⟨_, rfl⟩, dm, hdm, hm.weak (fun o2 r2 h2 nx2 hq2 => ?_)⟩
  obtain ⟨b1, b2, b3⟩ := hQ o2 r2 h2 nx2 hq2
  subst b2
  exact ⟨b1, rfl, rfl, b3⟩
set_option maxHeartbeats 2000000 in
theorem op_keep {l : Launch} {D : va_G} {dT : Nat → ClassId} {H0 : Heap} {r : Nat → Nat} {h : j_H} {nx : Nat} (hH : cw_H dT r h) (v : Int32) : PAIR l D dT H0 yX0_keep cX0_keep 2 yX3_keep cX3_keep 3 [.int v] r h nx := by
  obtain ⟨g, F, V, kI, bs, fg, m, nk, a, M, tk, W, rfl, hP⟩ := hH
  obtain ⟨hT, hA, hI, hg, hD⟩ := id hP
  by_cases hv : 0 ≤ v ∧ v ≤ 1
  · skip
    rcases hD with h0 | ⟨kd, ks, h1⟩
    · skip
      have h0k := h0
      obtain ⟨rfl, rfl, rfl, rfl, rfl, rfl, f0, ⟨c60, h60⟩, f2, f4, hi0⟩ := h0
      have h60m := (md60 (r := r) (dT := dT) (g := g) (kI := -1) (bs := 0) (fg := 0) (m := 0) (nk := 0) (a := (0, 0, 0, 0)) (M := M) (tk := tk) (W := W) (i := 60) (by decide)).trans h60
      obtain ⟨k, rfl, -, hk⟩ := in_n (lo := 0) (hi := 1) (by decide) (by decide) hv
      have ck : k = 0 ∨ k = 1 := by omega
      rcases ck with rfl | rfl
      · skip
        refine pr_e f_keep0 (m_keep1 (a := (0, 0, 0, 0)) 0 (by decide) (by decide)) ?_
        rintro o r2 h2 nx2 ⟨e1, e2, -, f, e3, i1, i2, i3, i4, i5⟩
        refine ⟨e1, e2, g, _, _, _, _, _, _, _, (0, 0, 0, 0), _, _, _, e3, hT.tr rfl rfl rfl rfl, hA, ?_, hg, ?_⟩
        · intro j hj
          have hc : j = 0 ∨ j = 1 := by omega
          rcases hc with rfl | rfl
          · refine ⟨Nat.le_refl _, rfl, fun _ => ⟨i2.trans (congrArg nI hA.2.2.2.1.symm), i3.trans (congrArg nI hA.2.2.2.2.1.symm), hA.2.2.2.2.2.1, hA.2.1.symm, hA.2.2.1, fun k hk => ?_⟩⟩
            refine (i4 k hk).trans ?_
            rw [← hA.2.2.2.2.2.2.1 k hk]
            exact (cpy_lo hk).symm
          · obtain ⟨c1, c2, c3⟩ := hI 1 (by decide)
            refine ⟨c1, c2, fun hk => ?_⟩
            obtain ⟨d1, d2, d3, d4, d5, d6⟩ := c3 hk
            exact ⟨(i5 _ (Or.inr (by decide))).trans d1, (i5 _ (Or.inr (by decide))).trans d2, d3, d4, d5, fun k hk => (i5 _ (Or.inr (by omega))).trans (d6 k hk)⟩
        · refine Or.inl ⟨rfl, rfl, rfl, rfl, rfl, rfl, f0, ⟨c60, h60⟩, f2, f4, fun j hj hk => ?_⟩
          have hc : j = 0 ∨ j = 1 := by omega
          rcases hc with rfl | rfl
          · exact ⟨f0, i1, f2⟩
          · obtain ⟨z1, z2, z3⟩ := hi0 1 (by decide) hk
            exact ⟨z1, (i5 _ (Or.inr (by decide))).trans z2, z3⟩
      · skip
        refine pr_e f_keep1 (m_keep1 (a := (0, 0, 0, 0)) 1 (by decide) (by decide)) ?_
        rintro o r2 h2 nx2 ⟨e1, e2, -, f, e3, i1, i2, i3, i4, i5⟩
        refine ⟨e1, e2, g, _, _, _, _, _, _, _, (0, 0, 0, 0), _, _, _, e3, hT.tr rfl rfl rfl rfl, hA, ?_, hg, ?_⟩
        · intro j hj
          have hc : j = 1 ∨ j = 0 := by omega
          rcases hc with rfl | rfl
          · refine ⟨Nat.le_refl _, rfl, fun _ => ⟨i2.trans (congrArg nI hA.2.2.2.1.symm), i3.trans (congrArg nI hA.2.2.2.2.1.symm), hA.2.2.2.2.2.1, hA.2.1.symm, hA.2.2.1, fun k hk => ?_⟩⟩
            refine (i4 k hk).trans ?_
            rw [← hA.2.2.2.2.2.2.1 k hk]
            exact (cpy_lo hk).symm
          · obtain ⟨c1, c2, c3⟩ := hI 0 (by decide)
            refine ⟨c1, c2, fun hk => ?_⟩
            obtain ⟨d1, d2, d3, d4, d5, d6⟩ := c3 hk
            exact ⟨(i5 _ (Or.inl (by decide))).trans d1, (i5 _ (Or.inl (by decide))).trans d2, d3, d4, d5, fun k hk => (i5 _ (Or.inl (by omega))).trans (d6 k hk)⟩
        · refine Or.inl ⟨rfl, rfl, rfl, rfl, rfl, rfl, f0, ⟨c60, h60⟩, f2, f4, fun j hj hk => ?_⟩
          have hc : j = 1 ∨ j = 0 := by omega
          rcases hc with rfl | rfl
          · exact ⟨f0, i1, f2⟩
          · obtain ⟨z1, z2, z3⟩ := hi0 0 (by decide) hk
            exact ⟨z1, (i5 _ (Or.inl (by decide))).trans z2, z3⟩
    · skip
      have h1k := h1
      obtain ⟨rfl, hoD, hpw, hfg, hn8, h60, hK, hMK, hc1, rfl, hs, ht, hb, him⟩ := h1
      have h60m := (md60 (r := r) (dT := dT) (g := g) (kI := nI kd) (bs := bs) (fg := fg) (m := m) (nk := nk) (a := decA m (F 0)) (M := M) (tk := tk) (W := W) (i := 60) (by decide)).trans h60
      have hKm := hK.md (kI := nI kd) (bs := bs) (fg := fg) (m := m) (nk := nk) (a := decA m (F 0)) (M := M) (tk := tk) (W := W)
      have hm := hoD.pos
      have hm2 := hoD.le
      have hoA := decA_ok hm hs
      have hs8 : F 0 < 80000 := Nat.lt_of_lt_of_le hs (mm_le hm2)
      have h61m := hKm.1
      obtain ⟨k, rfl, -, hk⟩ := in_n (lo := 0) (hi := 1) (by decide) (by decide) hv
      have ck : k = 0 ∨ k = 1 := by omega
      rcases ck with rfl | rfl
      · skip
        refine pr_e f_keep0 (m_keep1 (a := (decA m (F 0))) 0 (by decide) hoA.2.2.2) ?_
        rintro o r2 h2 nx2 ⟨e1, e2, -, f, e3, i1, i2, i3, i4, i5⟩
        refine ⟨e1, e2, g, _, _, _, _, _, _, _, (decA m (F 0)), _, _, _, e3, hT.tr rfl rfl rfl rfl, hA, ?_, hg, ?_⟩
        · intro j hj
          have hc : j = 0 ∨ j = 1 := by omega
          rcases hc with rfl | rfl
          · refine ⟨Nat.le_refl _, rfl, fun _ => ⟨i2.trans (congrArg nI hA.2.2.2.1.symm), i3.trans (congrArg nI hA.2.2.2.2.1.symm), hA.2.2.2.2.2.1, hA.2.1.symm, hA.2.2.1, fun k hk => ?_⟩⟩
            refine (i4 k hk).trans ?_
            rw [← hA.2.2.2.2.2.2.1 k hk]
            exact (cpy_lo hk).symm
          · obtain ⟨c1, c2, c3⟩ := hI 1 (by decide)
            refine ⟨c1, c2, fun hk => ?_⟩
            obtain ⟨d1, d2, d3, d4, d5, d6⟩ := c3 hk
            exact ⟨(i5 _ (Or.inr (by decide))).trans d1, (i5 _ (Or.inr (by decide))).trans d2, d3, d4, d5, fun k hk => (i5 _ (Or.inr (by omega))).trans (d6 k hk)⟩
        · refine Or.inr ⟨kd, ks, rfl, hoD, hpw, hfg, hn8, h60, hK, hMK, hc1, rfl, hs, ht, hb, fun j hj hk => ?_⟩
          have hc : j = 0 ∨ j = 1 := by omega
          rcases hc with rfl | rfl
          · refine ⟨hs, i1, fun k hk => ?_⟩
            have hk2 : k < F 2 := hk
            have h6 := hA.2.2.2.2.2.1
            have e9 : va_cpy (V 2) (V 19) 0 0 6 k = V 2 k := cpy_lo (by omega)
            show 0 ≤ va_cpy (V 2) (V 19) 0 0 6 k ∧ va_cpy (V 2) (V 19) 0 0 6 k ≤ nI m - 1
            rw [e9]
            exact ht k hk2
          · obtain ⟨z1, z2, z3⟩ := him 1 (by decide) hk
            exact ⟨z1, (i5 _ (Or.inr (by decide))).trans z2, z3⟩
      · skip
        refine pr_e f_keep1 (m_keep1 (a := (decA m (F 0))) 1 (by decide) hoA.2.2.2) ?_
        rintro o r2 h2 nx2 ⟨e1, e2, -, f, e3, i1, i2, i3, i4, i5⟩
        refine ⟨e1, e2, g, _, _, _, _, _, _, _, (decA m (F 0)), _, _, _, e3, hT.tr rfl rfl rfl rfl, hA, ?_, hg, ?_⟩
        · intro j hj
          have hc : j = 1 ∨ j = 0 := by omega
          rcases hc with rfl | rfl
          · refine ⟨Nat.le_refl _, rfl, fun _ => ⟨i2.trans (congrArg nI hA.2.2.2.1.symm), i3.trans (congrArg nI hA.2.2.2.2.1.symm), hA.2.2.2.2.2.1, hA.2.1.symm, hA.2.2.1, fun k hk => ?_⟩⟩
            refine (i4 k hk).trans ?_
            rw [← hA.2.2.2.2.2.2.1 k hk]
            exact (cpy_lo hk).symm
          · obtain ⟨c1, c2, c3⟩ := hI 0 (by decide)
            refine ⟨c1, c2, fun hk => ?_⟩
            obtain ⟨d1, d2, d3, d4, d5, d6⟩ := c3 hk
            exact ⟨(i5 _ (Or.inl (by decide))).trans d1, (i5 _ (Or.inl (by decide))).trans d2, d3, d4, d5, fun k hk => (i5 _ (Or.inl (by omega))).trans (d6 k hk)⟩
        · refine Or.inr ⟨kd, ks, rfl, hoD, hpw, hfg, hn8, h60, hK, hMK, hc1, rfl, hs, ht, hb, fun j hj hk => ?_⟩
          have hc : j = 1 ∨ j = 0 := by omega
          rcases hc with rfl | rfl
          · refine ⟨hs, i1, fun k hk => ?_⟩
            have hk2 : k < F 2 := hk
            have h6 := hA.2.2.2.2.2.1
            have e9 : va_cpy (V 2) (V 21) 0 0 6 k = V 2 k := cpy_lo (by omega)
            show 0 ≤ va_cpy (V 2) (V 21) 0 0 6 k ∧ va_cpy (V 2) (V 21) 0 0 6 k ≤ nI m - 1
            rw [e9]
            exact ht k hk2
          · obtain ⟨z1, z2, z3⟩ := him 0 (by decide) hk
            exact ⟨z1, (i5 _ (Or.inl (by decide))).trans z2, z3⟩
  · skip
    exact pr_q hP (f_keepo v hv) jq_i.q (fun _ _ => m_keep0 v hv) (fun _ _ => jq_i.mQ)
set_option maxHeartbeats 2000000 in
theorem op_goBack {l : Launch} {D : va_G} {dT : Nat → ClassId} {H0 : Heap} {r : Nat → Nat} {h : j_H} {nx : Nat} (hH : cw_H dT r h) (v : Int32) : PAIR l D dT H0 yX0_goBack cX0_goBack 2 yX3_goBack cX3_goBack 3 [.int v] r h nx := by
  obtain ⟨g, F, V, kI, bs, fg, m, nk, a, M, tk, W, rfl, hP⟩ := hH
  obtain ⟨hT, hA, hI, hg, hD⟩ := id hP
  by_cases hv : 0 ≤ v ∧ v ≤ 1
  · skip
    rcases hD with h0 | ⟨kd, ks, h1⟩
    · skip
      have h0k := h0
      obtain ⟨rfl, rfl, rfl, rfl, rfl, rfl, f0, ⟨c60, h60⟩, f2, f4, hi0⟩ := h0
      have h60m := (md60 (r := r) (dT := dT) (g := g) (kI := -1) (bs := 0) (fg := 0) (m := 0) (nk := 0) (a := (0, 0, 0, 0)) (M := M) (tk := tk) (W := W) (i := 60) (by decide)).trans h60
      obtain ⟨k, rfl, -, hk⟩ := in_n (lo := 0) (hi := 1) (by decide) (by decide) hv
      have ck : k = 0 ∨ k = 1 := by omega
      rcases ck with rfl | rfl
      · skip
        obtain ⟨c1, c2, c3⟩ := hI 0 (by decide)
        by_cases hk : F 14 = 0
        · exact pr_q hP (f_goBack0n hk) jq_i.q (fun _ _ => m_goBackn 0 (by decide) (by rw [c2]; show nI (F 14) = 0; rw [hk]; rfl)) (fun _ _ => jq_i.mQ)
        have hk1 : F 14 = 1 := by have c1 : F 14 ≤ 1 := c1; omega
        obtain ⟨d1, d2, d3, d4, d5, d6⟩ := c3 hk1
        have c2k : W 108 0 = 1 := by rw [c2]; show nI (F 14) = 1; rw [hk1]; rfl
        obtain ⟨z1, z2, z3⟩ := hi0 0 (by decide) hk1
        refine pr_e (f_goBack0 hk1) (m_goBackz 0 (F 11) (F 12) (by decide) c2k z2 d1 d2) ?_
        rintro o r2 h2 nx2 ⟨e1, e2, -, f, e3, hf⟩
        have ez : decM 0 0 = (0, 0, 0, 0) := rfl
        refine ⟨e1, e2, g, _, _, _, _, _, _, _, decM 0 0, _, _, _, e3, hT.tr rfl rfl rfl rfl, ⟨hA.1, d4.symm, d5, rfl, rfl, d3, fun k hk => ?_, hA.2.2.2.2.2.2.2.1, hA.2.2.2.2.2.2.2.2.1, hA.2.2.2.2.2.2.2.2.2⟩, hI.tr (fun k hk => by rw [va_up_ne _ _ (by omega), va_up_ne _ _ (by omega), va_up_ne _ _ (by omega), va_up_ne _ _ (by omega)]) (fun k hk => by rw [va_up_ne _ _ (by omega), va_up_ne _ _ (by omega), va_up_ne _ _ (by omega)]) (upV (by decide)) rfl rfl, hg, Or.inl ?_⟩
        · refine (cpy_lo hk).trans ((d6 k hk).symm.trans (hf k hk).symm)
        · exact h0k.tr (fun k hk => by rw [va_up_ne _ _ (by omega), va_up_ne _ _ (by omega), va_up_ne _ _ (by omega), va_up_ne _ _ (by omega)]) z1 z3 f4 rfl
      · skip
        obtain ⟨c1, c2, c3⟩ := hI 1 (by decide)
        by_cases hk : F 24 = 0
        · exact pr_q hP (f_goBack1n hk) jq_i.q (fun _ _ => m_goBackn 1 (by decide) (by rw [c2]; show nI (F 24) = 0; rw [hk]; rfl)) (fun _ _ => jq_i.mQ)
        have hk1 : F 24 = 1 := by have c1 : F 24 ≤ 1 := c1; omega
        obtain ⟨d1, d2, d3, d4, d5, d6⟩ := c3 hk1
        have c2k : W 108 1 = 1 := by rw [c2]; show nI (F 24) = 1; rw [hk1]; rfl
        obtain ⟨z1, z2, z3⟩ := hi0 1 (by decide) hk1
        refine pr_e (f_goBack1 hk1) (m_goBackz 1 (F 21) (F 22) (by decide) c2k z2 d1 d2) ?_
        rintro o r2 h2 nx2 ⟨e1, e2, -, f, e3, hf⟩
        have ez : decM 0 0 = (0, 0, 0, 0) := rfl
        refine ⟨e1, e2, g, _, _, _, _, _, _, _, decM 0 0, _, _, _, e3, hT.tr rfl rfl rfl rfl, ⟨hA.1, d4.symm, d5, rfl, rfl, d3, fun k hk => ?_, hA.2.2.2.2.2.2.2.1, hA.2.2.2.2.2.2.2.2.1, hA.2.2.2.2.2.2.2.2.2⟩, hI.tr (fun k hk => by rw [va_up_ne _ _ (by omega), va_up_ne _ _ (by omega), va_up_ne _ _ (by omega), va_up_ne _ _ (by omega)]) (fun k hk => by rw [va_up_ne _ _ (by omega), va_up_ne _ _ (by omega), va_up_ne _ _ (by omega)]) (upV (by decide)) rfl rfl, hg, Or.inl ?_⟩
        · refine (cpy_lo hk).trans ((d6 k hk).symm.trans (hf k hk).symm)
        · exact h0k.tr (fun k hk => by rw [va_up_ne _ _ (by omega), va_up_ne _ _ (by omega), va_up_ne _ _ (by omega), va_up_ne _ _ (by omega)]) z1 z3 f4 rfl
    · skip
      have h1k := h1
      obtain ⟨rfl, hoD, hpw, hfg, hn8, h60, hK, hMK, hc1, rfl, hs, ht, hb, him⟩ := h1
      have h60m := (md60 (r := r) (dT := dT) (g := g) (kI := nI kd) (bs := bs) (fg := fg) (m := m) (nk := nk) (a := decA m (F 0)) (M := M) (tk := tk) (W := W) (i := 60) (by decide)).trans h60
      have hKm := hK.md (kI := nI kd) (bs := bs) (fg := fg) (m := m) (nk := nk) (a := decA m (F 0)) (M := M) (tk := tk) (W := W)
      have hm := hoD.pos
      have hm2 := hoD.le
      have hoA := decA_ok hm hs
      have hs8 : F 0 < 80000 := Nat.lt_of_lt_of_le hs (mm_le hm2)
      have h61m := hKm.1
      obtain ⟨k, rfl, -, hk⟩ := in_n (lo := 0) (hi := 1) (by decide) (by decide) hv
      have ck : k = 0 ∨ k = 1 := by omega
      rcases ck with rfl | rfl
      · skip
        obtain ⟨c1, c2, c3⟩ := hI 0 (by decide)
        by_cases hk : F 14 = 0
        · exact pr_q hP (f_goBack0n hk) jq_i.q (fun _ _ => m_goBackn 0 (by decide) (by rw [c2]; show nI (F 14) = 0; rw [hk]; rfl)) (fun _ _ => jq_i.mQ)
        have hk1 : F 14 = 1 := by have c1 : F 14 ≤ 1 := c1; omega
        obtain ⟨d1, d2, d3, d4, d5, d6⟩ := c3 hk1
        have c2k : W 108 0 = 1 := by rw [c2]; show nI (F 14) = 1; rw [hk1]; rfl
        obtain ⟨z1, z2, z3⟩ := him 0 (by decide) hk1
        have z1 : F 10 < 8 * m * m := z1
        have hoB := decA_ok hm z1
        refine pr_e (f_goBack0 hk1) (m_goBack1 0 (encM m (decA m (F 10))) (F 11) (F 12) (by decide) hm hm2 c2k z2 (by have := encM_lt hoB; have := mm_le hm2; omega) d1 d2) ?_
        rintro o r2 h2 nx2 ⟨e1, e2, -, f, e3, hf⟩
        rw [decM_encM hoB] at e3
        refine ⟨e1, e2, g, _, _, _, _, _, _, _, decA m (F 10), _, _, _, e3, hT.tr rfl rfl rfl rfl, ⟨hA.1, d4.symm, d5, rfl, rfl, d3, fun k hk => ?_, hA.2.2.2.2.2.2.2.1, hA.2.2.2.2.2.2.2.2.1, hA.2.2.2.2.2.2.2.2.2⟩, hI.tr (fun k hk => by rw [va_up_ne _ _ (by omega), va_up_ne _ _ (by omega), va_up_ne _ _ (by omega), va_up_ne _ _ (by omega)]) (fun k hk => by rw [va_up_ne _ _ (by omega), va_up_ne _ _ (by omega), va_up_ne _ _ (by omega)]) (upV (by decide)) rfl rfl, hg, Or.inr ⟨kd, ks, ?_⟩⟩
        · refine (cpy_lo hk).trans ((d6 k hk).symm.trans (hf k hk).symm)
        · refine h1k.tr (fun k hk => by rw [va_up_ne _ _ (by omega), va_up_ne _ _ (by omega), va_up_ne _ _ (by omega), va_up_ne _ _ (by omega)]) rfl z1 (fun j hj => ?_) hb (upV (by decide)) rfl rfl
          have hj2 : j < F 12 := hj
          have d3 : F 12 ≤ 6 := d3
          show 0 ≤ va_cpy (V 19) (V 2) 0 0 6 j ∧ va_cpy (V 19) (V 2) 0 0 6 j ≤ nI m - 1
          rw [cpy_lo (by omega)]
          exact z3 j hj2
      · skip
        obtain ⟨c1, c2, c3⟩ := hI 1 (by decide)
        by_cases hk : F 24 = 0
        · exact pr_q hP (f_goBack1n hk) jq_i.q (fun _ _ => m_goBackn 1 (by decide) (by rw [c2]; show nI (F 24) = 0; rw [hk]; rfl)) (fun _ _ => jq_i.mQ)
        have hk1 : F 24 = 1 := by have c1 : F 24 ≤ 1 := c1; omega
        obtain ⟨d1, d2, d3, d4, d5, d6⟩ := c3 hk1
        have c2k : W 108 1 = 1 := by rw [c2]; show nI (F 24) = 1; rw [hk1]; rfl
        obtain ⟨z1, z2, z3⟩ := him 1 (by decide) hk1
        have z1 : F 20 < 8 * m * m := z1
        have hoB := decA_ok hm z1
        refine pr_e (f_goBack1 hk1) (m_goBack1 1 (encM m (decA m (F 20))) (F 21) (F 22) (by decide) hm hm2 c2k z2 (by have := encM_lt hoB; have := mm_le hm2; omega) d1 d2) ?_
        rintro o r2 h2 nx2 ⟨e1, e2, -, f, e3, hf⟩
        rw [decM_encM hoB] at e3
        refine ⟨e1, e2, g, _, _, _, _, _, _, _, decA m (F 20), _, _, _, e3, hT.tr rfl rfl rfl rfl, ⟨hA.1, d4.symm, d5, rfl, rfl, d3, fun k hk => ?_, hA.2.2.2.2.2.2.2.1, hA.2.2.2.2.2.2.2.2.1, hA.2.2.2.2.2.2.2.2.2⟩, hI.tr (fun k hk => by rw [va_up_ne _ _ (by omega), va_up_ne _ _ (by omega), va_up_ne _ _ (by omega), va_up_ne _ _ (by omega)]) (fun k hk => by rw [va_up_ne _ _ (by omega), va_up_ne _ _ (by omega), va_up_ne _ _ (by omega)]) (upV (by decide)) rfl rfl, hg, Or.inr ⟨kd, ks, ?_⟩⟩
        · refine (cpy_lo hk).trans ((d6 k hk).symm.trans (hf k hk).symm)
        · refine h1k.tr (fun k hk => by rw [va_up_ne _ _ (by omega), va_up_ne _ _ (by omega), va_up_ne _ _ (by omega), va_up_ne _ _ (by omega)]) rfl z1 (fun j hj => ?_) hb (upV (by decide)) rfl rfl
          have hj2 : j < F 22 := hj
          have d3 : F 22 ≤ 6 := d3
          show 0 ≤ va_cpy (V 21) (V 2) 0 0 6 j ∧ va_cpy (V 21) (V 2) 0 0 6 j ≤ nI m - 1
          rw [cpy_lo (by omega)]
          exact z3 j hj2
  · skip
    exact pr_q hP (f_goBacko v hv) jq_i.q (fun _ _ => m_goBack0 v hv) (fun _ _ => jq_i.mQ)
/-- a byte on both sides -/
theorem by_x : ∀ t, t < 256 → (Int8.ofBitVec (BitVec.ofNat 8 t)).toInt32 = sbI t := by decide +kernel
theorem by_2 (x : Int64) : ∃ t, t < 256 ∧ x.toInt32.toInt8.toInt32 = sbI t ∧ (x &&& 255).toInt32 = nI t := by
  refine ⟨x.toBitVec.toNat % 256, Nat.mod_lt _ (by decide), ?_, ?_⟩
  · rw [← by_x _ (Nat.mod_lt _ (by decide))]
    congr 1
    apply Int8.toBitVec_inj.mp
    apply BitVec.eq_of_toNat_eq
    simp
    omega
  · apply Int32.toBitVec_inj.mp
    apply BitVec.eq_of_toNat_eq
    have e : (x &&& 255).toBitVec.toNat = x.toBitVec.toNat % 256 := by
      show (x.toBitVec &&& (255 : Int64).toBitVec).toNat = _
      rw [BitVec.toNat_and]
      exact Nat.and_two_pow_sub_one_eq_mod _ 8
    unfold nI
    simp [e]
theorem tx_T {f : Nat → Int32} {n : Nat} {T T' : Nat → Nat} (h : txR f n T) (e : ∀ j, j < n → T' j = T j) : txR f n T' := fun j hj => by rw [e j hj]; exact h j hj
set_option maxHeartbeats 2000000 in
theorem op_feed {l : Launch} {D : va_G} {dT : Nat → ClassId} {H0 : Heap} {r : Nat → Nat} {h : j_H} {nx : Nat} (hH : cw_H dT r h) (v : Int32) (b : Int64) : PAIR l D dT H0 yX0_feed cX0_feed 5 yX3_feed cX3_feed 5 [.int v, .long b] r h nx := by
  obtain ⟨g, F, V, kI, bs, fg, m, nk, a, M, tk, W, rfl, hP⟩ := hH
  obtain ⟨hT, hA, hI, hg, hD⟩ := id hP
  by_cases hv : 1 ≤ v ∧ v ≤ 8
  · skip
    obtain ⟨n, rfl, hn1, hn2⟩ := in_n (lo := 1) (hi := 8) (by decide) (by decide) hv
    have hn : 1 ≤ n ∧ n ≤ 8 := ⟨hn1, hn2⟩
    by_cases hf : F 5 + n ≤ 400
    · skip
      rcases hD with h0 | ⟨kd, ks, h1⟩
      · skip
        have h0k := h0
        obtain ⟨rfl, rfl, rfl, rfl, rfl, rfl, f0, ⟨c60, h60⟩, f2, f4, hi0⟩ := h0
        have h60m := (md60 (r := r) (dT := dT) (g := g) (kI := -1) (bs := 0) (fg := 0) (m := 0) (nk := 0) (a := (0, 0, 0, 0)) (M := M) (tk := tk) (W := W) (i := 60) (by decide)).trans h60
        have h5 := hT.1
        obtain ⟨T, t1, t2⟩ := hT.2.2
        refine pr_d (f_feed1 n hn b hf) (m_feed1 n hn b (by rw [← h5]; exact hf)) (by rw [h5]) ⟨⟨by show F 5 + n = M 6 + n; rw [h5], hf, ?_⟩, hA, hI.tr (upN (by decide)) (upM (by decide)) (upV (by decide)) rfl rfl, hg, Or.inl (h0k.tr (upN (by decide)) f0 f2 f4 rfl)⟩
        refine ⟨fun j => if F 5 ≤ j ∧ j < F 5 + n then Classical.choose (by_2 (b >>> ((8 * nI (n - 1 - (j - F 5))).toInt64 &&& 63))) else T j, fun j hj => ?_, fun j hj => ?_⟩
        · have hj2 : j < F 5 + n := hj
          show ftext b n (F 5) (V 5) j = _ ∧ _
          unfold ftext
          by_cases hc : F 5 ≤ j ∧ j < F 5 + n
          · dsimp only
            rw [if_pos hc, if_pos hc]
            obtain ⟨a1, a2, a3⟩ := Classical.choose_spec (by_2 (b >>> ((8 * nI (n - 1 - (j - F 5))).toInt64 &&& 63)))
            exact ⟨a2, a1⟩
          · dsimp only
            rw [if_neg hc, if_neg hc]
            exact t1 j (by omega)
        · have hj2 : j < F 5 + n := hj
          show mtext b n (M 6) (W 102) j = _ ∧ _
          rw [← h5]
          unfold mtext
          by_cases hc : F 5 ≤ j ∧ j < F 5 + n
          · dsimp only
            rw [if_pos hc, if_pos hc]
            obtain ⟨a1, a2, a3⟩ := Classical.choose_spec (by_2 (b >>> ((8 * nI (n - 1 - (j - F 5))).toInt64 &&& 63)))
            exact ⟨a3, a1⟩
          · dsimp only
            rw [if_neg hc, if_neg hc]
            exact t2 j (by omega)
      · skip
        have h1k := h1
        obtain ⟨rfl, hoD, hpw, hfg, hn8, h60, hK, hMK, hc1, rfl, hs, ht, hb, him⟩ := h1
        have h60m := (md60 (r := r) (dT := dT) (g := g) (kI := nI kd) (bs := bs) (fg := fg) (m := m) (nk := nk) (a := decA m (F 0)) (M := M) (tk := tk) (W := W) (i := 60) (by decide)).trans h60
        have hKm := hK.md (kI := nI kd) (bs := bs) (fg := fg) (m := m) (nk := nk) (a := decA m (F 0)) (M := M) (tk := tk) (W := W)
        have hm := hoD.pos
        have hm2 := hoD.le
        have hoA := decA_ok hm hs
        have hs8 : F 0 < 80000 := Nat.lt_of_lt_of_le hs (mm_le hm2)
        have h61m := hKm.1
        have h5 := hT.1
        obtain ⟨T, t1, t2⟩ := hT.2.2
        refine pr_d (f_feed1 n hn b hf) (m_feed1 n hn b (by rw [← h5]; exact hf)) (by rw [h5]) ⟨⟨by show F 5 + n = M 6 + n; rw [h5], hf, ?_⟩, hA, hI.tr (upN (by decide)) (upM (by decide)) (upV (by decide)) rfl rfl, hg, Or.inr ⟨kd, ks, h1k.tr (upN (by decide)) rfl hs ht hb (upV (by decide)) rfl rfl⟩⟩
        refine ⟨fun j => if F 5 ≤ j ∧ j < F 5 + n then Classical.choose (by_2 (b >>> ((8 * nI (n - 1 - (j - F 5))).toInt64 &&& 63))) else T j, fun j hj => ?_, fun j hj => ?_⟩
        · have hj2 : j < F 5 + n := hj
          show ftext b n (F 5) (V 5) j = _ ∧ _
          unfold ftext
          by_cases hc : F 5 ≤ j ∧ j < F 5 + n
          · dsimp only
            rw [if_pos hc, if_pos hc]
            obtain ⟨a1, a2, a3⟩ := Classical.choose_spec (by_2 (b >>> ((8 * nI (n - 1 - (j - F 5))).toInt64 &&& 63)))
            exact ⟨a2, a1⟩
          · dsimp only
            rw [if_neg hc, if_neg hc]
            exact t1 j (by omega)
        · have hj2 : j < F 5 + n := hj
          show mtext b n (M 6) (W 102) j = _ ∧ _
          rw [← h5]
          unfold mtext
          by_cases hc : F 5 ≤ j ∧ j < F 5 + n
          · dsimp only
            rw [if_pos hc, if_pos hc]
            obtain ⟨a1, a2, a3⟩ := Classical.choose_spec (by_2 (b >>> ((8 * nI (n - 1 - (j - F 5))).toInt64 &&& 63)))
            exact ⟨a3, a1⟩
          · dsimp only
            rw [if_neg hc, if_neg hc]
            exact t2 j (by omega)
    · skip
      exact pr_q hP (f_feedf n hn b (by omega) hT.2.1) jq_i.q (fun _ _ => m_feedf n hn b (by rw [← hT.1]; omega) (by rw [← hT.1]; exact hT.2.1)) (fun _ _ => jq_i.mQ)
  · skip
    exact pr_q hP (f_feedo v b hv) jq_i.q (fun _ _ => m_feedo v b hv) (fun _ _ => jq_i.mQ)
/-- the model's cells don't know of other addresses than theirs -/
theorem md_re {r r' : Nat → Nat} {dT : Nat → ClassId} {g g' : j_H} {kI : Int32} {bs fg m nk w x s t : Nat} {M : Nat → Nat} {tk : Int64} {W : Nat → Nat → Int32} (hr : ∀ k, 100 ≤ k → k < 116 → r' k = r k) (hg : ∀ k, 100 ≤ k → k < 116 → g' k = mdS r dT g kI bs fg m nk w x s t M tk W k) : g' = mdS r' dT g' kI bs fg m nk w x s t M tk W := by
  funext i
  by_cases hi : 100 ≤ i ∧ i < 116
  · rw [hg i hi.1 hi.2]
    unfold mdS
    rw [md_t hi.1 hi.2, cond_true, cond_true]
    by_cases h0 : i = 100
    · subst h0
      show some _ = some _
      rw [hr 101 (by decide) (by decide), hr 102 (by decide) (by decide), hr 103 (by decide) (by decide), hr 104 (by decide) (by decide), hr 105 (by decide) (by decide), hr 106 (by decide) (by decide), hr 107 (by decide) (by decide), hr 108 (by decide) (by decide), hr 109 (by decide) (by decide), hr 110 (by decide) (by decide), hr 111 (by decide) (by decide), hr 112 (by decide) (by decide), hr 113 (by decide) (by decide), hr 114 (by decide) (by decide), hr 115 (by decide) (by decide)]
    · unfold mdG
      split <;> first | rfl | omega
  · unfold mdS
    rw [md_f (by omega), cond_false]
set_option maxHeartbeats 2000000 in
theorem op_more {l : Launch} {D : va_G} {dT : Nat → ClassId} {H0 : Heap} {r : Nat → Nat} {h : j_H} {nx : Nat} (hH : cw_H dT r h) (v : Int32) : PAIR l D dT H0 yX0_more cX0_more 6 yX3_more cX3_more 7 [.int v] r h nx := by
  obtain ⟨g, F, V, kI, bs, fg, m, nk, a, M, tk, W, rfl, hP⟩ := hH
  obtain ⟨hT, hA, hI, hg, hD⟩ := id hP
  by_cases hv : 0 ≤ v ∧ v ≤ 2
  · skip
    rcases hD with h0 | ⟨kd, ks, h1⟩
    · skip
      have h0k := h0
      obtain ⟨rfl, rfl, rfl, rfl, rfl, rfl, f0, ⟨c60, h60⟩, f2, f4, hi0⟩ := h0
      have h60m := (md60 (r := r) (dT := dT) (g := g) (kI := -1) (bs := 0) (fg := 0) (m := 0) (nk := 0) (a := (0, 0, 0, 0)) (M := M) (tk := tk) (W := W) (i := 60) (by decide)).trans h60
      exact pr_q hP (f_more0 h60m v hv) jq_i.q (fun _ _ => m_more0 v hv) (fun _ _ => jq_i.mQ)
    · skip
      have h1k := h1
      obtain ⟨rfl, hoD, hpw, hfg, hn8, h60, hK, hMK, hc1, rfl, hs, ht, hb, him⟩ := h1
      have h60m := (md60 (r := r) (dT := dT) (g := g) (kI := nI kd) (bs := bs) (fg := fg) (m := m) (nk := nk) (a := decA m (F 0)) (M := M) (tk := tk) (W := W) (i := 60) (by decide)).trans h60
      have hKm := hK.md (kI := nI kd) (bs := bs) (fg := fg) (m := m) (nk := nk) (a := decA m (F 0)) (M := M) (tk := tk) (W := W)
      have hm := hoD.pos
      have hm2 := hoD.le
      have hoA := decA_ok hm hs
      have hs8 : F 0 < 80000 := Nat.lt_of_lt_of_le hs (mm_le hm2)
      have h61m := hKm.1
      have h6 := hA.2.2.2.2.2.1
      have htg := in_tg hm hm2 ht
      have htg2 : ∀ i, i < M 27 → W 104 i = nI (V 2 i).toNatClampNeg ∧ (V 2 i).toNatClampNeg < m := fun i hi => by
        rw [← hA.2.2.2.2.1] at hi
        rw [← hA.2.2.2.2.2.2.1 i (by omega)]
        exact htg i hi
      have hx := f_more1 (l := l) (D := D) (H0 := H0) (nx := nx) (V := V) (F := F) h60m hKm hn8 v hv (fun i => (V 2 i).toNatClampNeg) htg h6 hs
      rw [← fm_comm]
      refine ⟨_, _, _, _, by decide, by decide, by decide, hx.weak (fun o r' h' nx' hq => ?_)⟩
      clear hx
      obtain ⟨e1, g', V', e3, hr', hg', hK', hV'⟩ := hq
      have hmr := md_re (r := r) (r' := r') (dT := dT) (g := g) (g' := g') (kI := nI kd) (bs := bs) (fg := fg) (m := m) (nk := nk) (w := (decA m (F 0)).1) (x := (decA m (F 0)).2.1) (s := (decA m (F 0)).2.2.1) (t := (decA m (F 0)).2.2.2) (M := M) (tk := tk) (W := W) (fun k a b => hr' k (by omega)) (fun k a b => hg' k (by omega) (by omega))
      have e4 : h' = mdS r' dT (fkS r' dT g' F V') (nI kd) bs fg m nk (decA m (F 0)).1 (decA m (F 0)).2.1 (decA m (F 0)).2.2.1 (decA m (F 0)).2.2.2 M tk W := by
        rw [e3]
        conv => lhs; rw [hmr]
        exact fm_comm (a := decA m (F 0))
      have g60 : ∀ i, i < 100 ∨ 116 ≤ i → i ≠ 62 → i ≠ nk + 63 → g' i = g i := fun i h1 h2 h3 => (hg' i h2 h3).trans (md60 (a := decA m (F 0)) h1)
      clear hmr e3
      subst e4
      refine ⟨e1, hr' 0 (by omega), hr' 100 (by omega), ⟨_, rfl⟩, 7, by decide, (m_more1 hoD hoA hMK hn8 v hv (fun i => (V 2 i).toNatClampNeg) htg2 (by rw [← hA.2.2.2.2.1]; exact h6)).weak (fun o2 r2 h2 nx2 hq2 => ?_)⟩
      obtain ⟨b1, b2, -, W', b4, b5, b6⟩ := hq2
      subst b2
      refine ⟨by rw [b1, hA.2.2.2.2.1], rfl, rfl, g', F, V', _, _, _, _, _, decA m (F 0), _, _, W', b4, ?_⟩
      have hW2 : ∀ k, ¬ isMs k → k ≠ 101 → W' k = W k := b5
      have v2 := hV' 2 (by unfold isSc; omega)
      have v3 := hV' 3 (by unfold isSc; omega)
      have v4 := hV' 4 (by unfold isSc; omega)
      have v5 := hV' 5 (by unfold isSc; omega)
      have w2 := hW2 102 (by unfold isMs; omega) (by decide)
      have w4 := hW2 104 (by unfold isMs; omega) (by decide)
      have w5 := hW2 105 (by unfold isMs; omega) (by decide)
      have w6 := hW2 106 (by unfold isMs; omega) (by decide)
      have w8 := hW2 108 (by unfold isMs; omega) (by decide)
      refine ⟨hT.tr rfl rfl v5 w2, ?_, ?_, fun i hi => (g60 i (by omega) (by omega) (by omega)).trans (hg i hi), Or.inr ⟨kd, ks, rfl, hoD, hpw, hfg, hn8, ?_, hK', ?_, hc1, rfl, hs, by rw [v2]; exact ht, by rw [v3]; exact hb, ?_⟩⟩
      · unfold cw_A at hA ⊢
        rw [v2, v3, v4, w4, w5]; exact hA
      · intro j hj
        rw [w6, w8, hV' (2 * j + 19) (by unfold isSc; omega)]
        exact hI j hj
      · rw [g60 60 (by decide) (by decide) (by omega), h60, hr' 61 (by omega), hr' 62 (by omega)]
      · intro k hk
        obtain ⟨⟨q1, q2, q3, q4⟩, q5⟩ := hMK k hk
        exact ⟨⟨(b6 _ (by omega)).trans q1, (b6 _ (by omega)).trans q2, (b6 _ (by omega)).trans q3, (b6 _ (by omega)).trans q4⟩, q5⟩
      · intro j hj hkj
        rw [w6, hV' (2 * j + 19) (by unfold isSc; omega)]
        exact him j hj hkj
  · skip
    exact pr_q hP (f_moreo v hv) jq_i.q (fun _ _ => m_moreo v hv) (fun _ _ => jq_i.mQ)
