set_option maxRecDepth 100000
theorem in_n {v : Int32} {lo hi : Nat} (hl : lo < 2 ^ 31) (hh : hi < 2 ^ 31) (h : nI lo ≤ v ∧ v ≤ nI hi) : ∃ k, v = nI k ∧ lo ≤ k ∧ k ≤ hi := by
  have h1 := Int32.le_iff_toInt_le.mp h.1
  have h2 := Int32.le_iff_toInt_le.mp h.2
  rw [nI_toInt hl] at h1
  rw [nI_toInt hh] at h2
  exact ⟨v.toInt.toNat, Int32.toInt_inj.mp (by rw [nI_toInt (by omega)]; omega), by omega, by omega⟩
theorem in_m {v : Int32} {m : Nat} (hm : 0 < m) (hm2 : m < 2 ^ 31) (h : 0 ≤ v ∧ v ≤ nI m - 1) : ∃ k, v = nI k ∧ k < m := by
  rw [show nI m - 1 = nI (m - 1) from nI_sub (b := 1) hm] at h
  obtain ⟨k, h1, -, h3⟩ := in_n (lo := 0) (hi := m - 1) (by omega) (by omega) h
  exact ⟨k, h1, by omega⟩
theorem no_0 {v : Int32} : ¬ (0 ≤ v ∧ v ≤ nI 0 - 1) := by
  intro h
  have h1 := Int32.le_iff_toInt_le.mp h.1
  have h2 := Int32.le_iff_toInt_le.mp h.2
  have e1 : (nI 0 - 1 : Int32).toInt = -1 := by decide
  have e0 : (0 : Int32).toInt = 0 := by decide
  rw [e1] at h2
  rw [e0] at h1
  omega
theorem fm_comm {r : Nat → Nat} {dT : Nat → ClassId} {g : j_H} {F : Nat → Nat} {V : Nat → Nat → Int32} {kI : Int32} {bs fg m nk : Nat} {a : A4} {M : Nat → Nat} {tk : Int64} {W : Nat → Nat → Int32} : (fkS r dT (mdS r dT g kI bs fg m nk a.1 a.2.1 a.2.2.1 a.2.2.2 M tk W) F V) = (mdS r dT (fkS r dT g F V) kI bs fg m nk a.1 a.2.1 a.2.2.1 a.2.2.2 M tk W) := by
  funext i
  by_cases h32 : i < 32
  · rw [fkS_lo h32]
    unfold mdS
    rw [md_f (by omega), cond_false, fkS_lo h32]
  · rw [fkS_hi (by omega)]
    unfold mdS
    by_cases hm : 100 ≤ i ∧ i < 116
    · rw [md_t hm.1 hm.2, cond_true, cond_true]
    · rw [md_f (by omega), cond_false, cond_false, fkS_hi (by omega)]
/-! the coupling -/
def cw_T (F M : Nat → Nat) (V W : Nat → Nat → Int32) : Prop := F 5 = M 6 ∧ F 5 ≤ 400 ∧ ∃ T, sbR (V 5) (F 5) T ∧ txR (W 102) (F 5) T
def cw_A (F M : Nat → Nat) (V W : Nat → Nat → Int32) : Prop := F 6 = M 13 ∧ F 3 = M 26 ∧ F 3 < 2 ^ 31 ∧ F 1 = M 25 ∧ F 2 = M 27 ∧ F 2 ≤ 6 ∧ (∀ k, k < 6 → V 2 k = W 104 k) ∧ F 4 = M 29 ∧ F 4 ≤ 40 ∧ ∀ i, i < 40 → V 3 i = W 105 (2 * i) ∧ V 4 i = W 105 (2 * i + 1)
def cw_I (F M : Nat → Nat) (V W : Nat → Nat → Int32) : Prop := ∀ i, i ≤ 1 → F (10 * i + 14) ≤ 1 ∧ W 108 i = nI (F (10 * i + 14)) ∧ (F (10 * i + 14) = 1 → W 106 (9 * i + 1) = nI (F (10 * i + 11)) ∧ W 106 (9 * i + 2) = nI (F (10 * i + 12)) ∧ F (10 * i + 12) ≤ 6 ∧ M (i + 100) = F (10 * i + 13) ∧ F (10 * i + 13) < 2 ^ 31 ∧ ∀ k, k < 6 → W 106 (9 * i + 3 + k) = V (2 * i + 19) k)
/-- no dial -/
def cw_0 (g : j_H) (F : Nat → Nat) (W : Nat → Nat → Int32) (kI : Int32) (bs fg m nk : Nat) (a : A4) : Prop := kI = -1 ∧ bs = 0 ∧ fg = 0 ∧ m = 0 ∧ nk = 0 ∧ a = (0, 0, 0, 0) ∧ F 0 = 0 ∧ (∃ c, g 60 = some (rcell .null c 0)) ∧ F 2 = 0 ∧ F 4 = 0 ∧ ∀ i, i ≤ 1 → F (10 * i + 14) = 1 → F (10 * i + 10) = 0 ∧ W 106 (9 * i) = nI 0 ∧ F (10 * i + 12) = 0
/-- a dial with its keys -/
def cw_1 (r : Nat → Nat) (dT : Nat → ClassId) (g : j_H) (F : Nat → Nat) (V W : Nat → Nat → Int32) (kI : Int32) (bs fg m nk : Nat) (a : A4) (kd : Nat) (ks : Nat → KY) : Prop := kI = nI kd ∧ okD kd bs m ∧ m = bs ^ fg ∧ (1 ≤ fg ∧ fg ≤ 6) ∧ nk ≤ 8 ∧ g 60 = some (rcell (.ref (r 61)) (r 62) nk) ∧ fkK r dT g kd bs fg m nk ks ∧ mdKs (W 101) bs m nk ks ∧ (∀ k, k < nk → 1 ≤ (ks k).2.1) ∧ a = decA m (F 0) ∧ F 0 < 8 * m * m ∧ (∀ i, i < F 2 → 0 ≤ V 2 i ∧ V 2 i ≤ nI m - 1) ∧ (∀ i, i < F 4 → 0 ≤ V 3 i ∧ V 3 i ≤ nI nk - 1) ∧ ∀ i, i ≤ 1 → F (10 * i + 14) = 1 → F (10 * i + 10) < 8 * m * m ∧ W 106 (9 * i) = nI (encM m (decA m (F (10 * i + 10)))) ∧ ∀ j, j < F (10 * i + 12) → 0 ≤ V (2 * i + 19) j ∧ V (2 * i + 19) j ≤ nI m - 1
def cw_P (r : Nat → Nat) (dT : Nat → ClassId) (g : j_H) (F : Nat → Nat) (V : Nat → Nat → Int32) (kI : Int32) (bs fg m nk : Nat) (a : A4) (M : Nat → Nat) (W : Nat → Nat → Int32) : Prop := cw_T F M V W ∧ cw_A F M V W ∧ cw_I F M V W ∧ (∀ i, 200 ≤ i → g i = none) ∧ (cw_0 g F W kI bs fg m nk a ∨ ∃ kd ks, cw_1 r dT g F V W kI bs fg m nk a kd ks)
/-- the searches' arrays don't count -/
theorem cw_P.vw {r : Nat → Nat} {dT : Nat → ClassId} {g : j_H} {F : Nat → Nat} {V : Nat → Nat → Int32} {kI : Int32} {bs fg m nk : Nat} {a : A4} {M : Nat → Nat} {W V' W' : Nat → Nat → Int32} (h : cw_P r dT g F V kI bs fg m nk a M W) (hV : ∀ k, ¬ isSc k → V' k = V k) (hW : ∀ k, ¬ isMs k → W' k = W k) : cw_P r dT g F V' kI bs fg m nk a M W' := by
  have v2 := hV 2 (by unfold isSc; omega)
  have v3 := hV 3 (by unfold isSc; omega)
  have v4 := hV 4 (by unfold isSc; omega)
  have v5 := hV 5 (by unfold isSc; omega)
  have v19 : ∀ i, i ≤ 1 → V' (2 * i + 19) = V (2 * i + 19) := fun i hi => hV _ (by unfold isSc; omega)
  have w1 := hW 101 (by unfold isMs; omega)
  have w2 := hW 102 (by unfold isMs; omega)
  have w4 := hW 104 (by unfold isMs; omega)
  have w5 := hW 105 (by unfold isMs; omega)
  have w6 := hW 106 (by unfold isMs; omega)
  have w8 := hW 108 (by unfold isMs; omega)
  obtain ⟨hT, hA, hI, hg, hD⟩ := h
  refine ⟨?_, ?_, ?_, hg, ?_⟩
  · unfold cw_T at hT ⊢; rw [v5, w2]; exact hT
  · unfold cw_A at hA ⊢; rw [v2, v3, v4, w4, w5]; exact hA
  · intro i hi
    rw [w8, w6, v19 i hi]; exact hI i hi
  · rcases hD with h0 | ⟨kd, ks, h1⟩
    · refine Or.inl ?_
      unfold cw_0 at h0 ⊢; rw [w6]; exact h0
    · refine Or.inr ⟨kd, ks, ?_⟩
      unfold cw_1 at h1 ⊢
      rw [w1, v2, v3, w6]
      obtain ⟨a1, a2, a3, a4, a5, a6, a7, a8, a9, b1, b2, b3, b4, b5⟩ := h1
      exact ⟨a1, a2, a3, a4, a5, a6, a7, a8, a9, b1, b2, b3, b4, fun i hi hk => by rw [v19 i hi]; exact b5 i hi hk⟩
/-- both objects in one heap -/
def cw_H (dT : Nat → ClassId) (r : Nat → Nat) (h : j_H) : Prop := ∃ (g : j_H) (F : Nat → Nat) (V : Nat → Nat → Int32) (kI : Int32) (bs fg m nk : Nat) (a : A4) (M : Nat → Nat) (tk : Int64) (W : Nat → Nat → Int32), h = (mdS r dT (fkS r dT g F V) kI bs fg m nk a.1 a.2.1 a.2.2.1 a.2.2.2 M tk W) ∧ cw_P r dT g F V kI bs fg m nk a M W
theorem cw_H.x {dT : Nat → ClassId} {r : Nat → Nat} {h : j_H} (hH : cw_H dT r h) : ∃ fs, h 0 = some (.inr (0, fs)) := by
  obtain ⟨g, F, V, kI, bs, fg, m, nk, a, M, tk, W, rfl, -⟩ := hH
  exact ⟨_, rfl⟩
/-- behind the first object's answer v the second one answers v too, and all is well again -/
def pairQ (l : Launch) (D : va_G) (dT : Nat → ClassId) (H0 : Heap) (ym : MethodName) (cm : ByteArray) (nLm : Nat) (A : List Value) (v : Int32) (r : Nat → Nat) : j_Q := fun o r' h' nx' => o = .returned (some (.int v)) ∧ r' 0 = r 0 ∧ r' 100 = r 100 ∧ (∃ fs, h' 100 = some (.inr (3, fs))) ∧ ∃ dm, dm ≤ 16 ∧ MC (gG l D dT H0) ym cm nLm (some .int) dm 0 0 (.ref (r' 100) :: A) r' h' nx' (fun o2 r2 h2 _ => o2 = .returned (some (.int v)) ∧ r2 0 = r' 0 ∧ r2 100 = r' 100 ∧ cw_H dT r2 h2)
theorem pairQ.isR {l : Launch} {D : va_G} {dT : Nat → ClassId} {H0 : Heap} {ym : MethodName} {cm : ByteArray} {nLm : Nat} {A : List Value} {v : Int32} {r : Nat → Nat} : j_isR (pairQ l D dT H0 ym cm nLm A v r) := fun _ _ _ _ hq => ⟨_, hq.1⟩
def PAIR (l : Launch) (D : va_G) (dT : Nat → ClassId) (H0 : Heap) (yx : MethodName) (cx : ByteArray) (nLx : Nat) (ym : MethodName) (cm : ByteArray) (nLm : Nat) (A : List Value) (r : Nat → Nat) (h : j_H) (nx : Nat) : Prop := ∃ (v : Int32) (dx mcx msx : Nat), dx ≤ 16 ∧ mcx ≤ 260 ∧ msx ≤ 34100 ∧ MC (gG l D dT H0) yx cx nLx (some .int) dx mcx msx (.ref (r 0) :: A) r h nx (pairQ l D dT H0 ym cm nLm A v r)
section PRS
variable {l : Launch} {D : va_G} {dT : Nat → ClassId} {H0 : Heap} {r : Nat → Nat} {nx : Nat} {g : j_H} {F : Nat → Nat} {V : Nat → Nat → Int32} {kI : Int32} {bs fg m nk : Nat} {a : A4} {M : Nat → Nat} {tk : Int64} {W : Nat → Nat → Int32} {yx ym : MethodName} {cx cm : ByteArray} {nLx dx nLm dm : Nat} {A : List Value} {v : Int32}
/-- a question -/
def isQx (r : Nat → Nat) (dT : Nat → ClassId) (gm : j_H) (F : Nat → Nat) (V : Nat → Nat → Int32) (v : Int32) (Q : j_Q) : Prop := ∀ o r' h' nx', Q o r' h' nx' → o = .returned (some (.int v)) ∧ r' = r ∧ ∃ V', h' = fkS r dT gm F V' ∧ ∀ k, ¬ isSc k → V' k = V k
theorem jq_i.q {gm : j_H} : isQx r dT gm F V v (jq_i v r (fkS r dT gm F V) nx) := fun _ _ _ _ hq => ⟨hq.1, hq.2.1, V, hq.2.2.1, fun _ _ => rfl⟩
theorem jq_s.q {gm : j_H} : isQx r dT gm F V v (jq_s v r dT gm F V nx) := fun _ _ _ _ hq => ⟨hq.1, hq.2.1, hq.2.2.2⟩
theorem jq_z.q {gm : j_H} : isQx r dT gm F V v (jq_z v r dT gm F V nx) := by
  rintro o r' h' nx' ⟨a1, a2, -, V', a3, a4⟩
  exact ⟨a1, a2, V', a3, fun k hk => a4 k (fun z => hk (by unfold isL at z; unfold isSc; omega))⟩
def isQm (r : Nat → Nat) (dT : Nat → ClassId) (gf : j_H) (kI : Int32) (bs fg m nk : Nat) (a : A4) (M : Nat → Nat) (tk : Int64) (W : Nat → Nat → Int32) (v : Int32) (Q : j_Q) : Prop := ∀ o r' h' nx', Q o r' h' nx' → o = .returned (some (.int v)) ∧ r' = r ∧ ∃ W', h' = (mdS r dT gf kI bs fg m nk a.1 a.2.1 a.2.2.1 a.2.2.2 M tk W') ∧ ∀ k, ¬ isMs k → W' k = W k
theorem jq_i.mQ {gf : j_H} : isQm r dT gf kI bs fg m nk a M tk W v (jq_i v r (mdS r dT gf kI bs fg m nk a.1 a.2.1 a.2.2.1 a.2.2.2 M tk W) nx) := fun _ _ _ _ hq => ⟨hq.1, hq.2.1, W, hq.2.2.1, fun _ _ => rfl⟩
theorem jq_m.mQ {gf : j_H} : isQm r dT gf kI bs fg m nk a M tk W v (jq_m v r dT gf kI bs fg m nk a M tk W nx) := fun _ _ _ _ hq => ⟨hq.1, hq.2.1, hq.2.2.2⟩
theorem pr_q (hP : cw_P r dT g F V kI bs fg m nk a M W) {Qx : j_Q} {Qm : (Nat → Nat → Int32) → Nat → j_Q} (hx : MC (gG l D dT H0) yx cx nLx (some .int) dx 0 0 (.ref (r 0) :: A) r (fkS r dT (mdS r dT g kI bs fg m nk a.1 a.2.1 a.2.2.1 a.2.2.2 M tk W) F V) nx Qx) (hQx : isQx r dT (mdS r dT g kI bs fg m nk a.1 a.2.1 a.2.2.1 a.2.2.2 M tk W) F V v Qx) (hm : ∀ V' nx', MC (gG l D dT H0) ym cm nLm (some .int) dm 0 0 (.ref (r 100) :: A) r (mdS r dT (fkS r dT g F V') kI bs fg m nk a.1 a.2.1 a.2.2.1 a.2.2.2 M tk W) nx' (Qm V' nx')) (hQm : ∀ V' nx', isQm r dT (fkS r dT g F V') kI bs fg m nk a M tk W v (Qm V' nx')) (hdx : dx ≤ 16 := by decide) (hdm : dm ≤ 16 := by decide) : PAIR l D dT H0 yx cx nLx ym cm nLm A r (mdS r dT (fkS r dT g F V) kI bs fg m nk a.1 a.2.1 a.2.2.1 a.2.2.2 M tk W) nx := by
  rw [← fm_comm]
  refine ⟨v, dx, 0, 0, hdx, by decide, by decide, hx.weak (fun o r' h' nx' hq => ?_)⟩
  obtain ⟨e1, e2, V', e3, e4⟩ := hQx o r' h' nx' hq
  subst e1; subst e2; subst e3
  rw [fm_comm]
  refine ⟨rfl, rfl, rfl, ⟨_, rfl⟩, dm, hdm, (hm V' nx').weak (fun o2 r2 h2 nx2 hq2 => ?_)⟩
  obtain ⟨b1, b2, W', b3, b4⟩ := hQm V' nx' o2 r2 h2 nx2 hq2
  subst b2
  exact ⟨b1, rfl, rfl, g, F, V', kI, bs, fg, m, nk, a, M, tk, W', b3, hP.vw e4 b4⟩
/-- a deed: both change their numbers -/
theorem pr_d {v' : Int32} {F' : Nat → Nat} {V' : Nat → Nat → Int32} {a' : A4} {M' : Nat → Nat} {W' : Nat → Nat → Int32} (hx : MC (gG l D dT H0) yx cx nLx (some .int) dx 0 0 (.ref (r 0) :: A) r (fkS r dT (mdS r dT g kI bs fg m nk a.1 a.2.1 a.2.2.1 a.2.2.2 M tk W) F V) nx (jq_i v r (fkS r dT (mdS r dT g kI bs fg m nk a.1 a.2.1 a.2.2.1 a.2.2.2 M tk W) F' V') nx)) (hm : MC (gG l D dT H0) ym cm nLm (some .int) dm 0 0 (.ref (r 100) :: A) r (mdS r dT (fkS r dT g F' V') kI bs fg m nk a.1 a.2.1 a.2.2.1 a.2.2.2 M tk W) nx (jq_i v' r (mdS r dT (fkS r dT g F' V') kI bs fg m nk a'.1 a'.2.1 a'.2.2.1 a'.2.2.2 M' tk W') nx)) (hv : v' = v) (hP : cw_P r dT g F' V' kI bs fg m nk a' M' W') (hdx : dx ≤ 16 := by decide) (hdm : dm ≤ 16 := by decide) : PAIR l D dT H0 yx cx nLx ym cm nLm A r (mdS r dT (fkS r dT g F V) kI bs fg m nk a.1 a.2.1 a.2.2.1 a.2.2.2 M tk W) nx := by
  subst hv
  rw [← fm_comm]
  refine ⟨v', dx, 0, 0, hdx, by decide, by decide, hx.weak (fun o r' h' nx' hq => ?_)⟩
  obtain ⟨e1, e2, e3, e4⟩ := hq
  subst e1; subst e2; subst e3; subst e4
  rw [fm_comm]
  refine ⟨rfl, rfl, rfl, ⟨_, rfl⟩, dm, hdm, hm.weak (fun o2 r2 h2 nx2 hq2 => ?_)⟩
  obtain ⟨b1, b2, b3, b4⟩ := hq2
  subst b2
  exact ⟨b1, rfl, rfl, g, F', V', kI, bs, fg, m, nk, a', M', tk, W', b3, hP⟩
end PRS
theorem md60 {r : Nat → Nat} {dT : Nat → ClassId} {g : j_H} {kI : Int32} {bs fg m nk : Nat} {a : A4} {M : Nat → Nat} {tk : Int64} {W : Nat → Nat → Int32} {i : Nat} (h : i < 100 ∨ 116 ≤ i) : (mdS r dT g kI bs fg m nk a.1 a.2.1 a.2.2.1 a.2.2.2 M tk W) i = g i := by
  unfold mdS
  rw [md_f h, cond_false]
theorem fkK.md {r : Nat → Nat} {dT : Nat → ClassId} {g : j_H} {kI : Int32} {bs fg m nk : Nat} {a : A4} {M : Nat → Nat} {tk : Int64} {W : Nat → Nat → Int32} {kd bs' fg' m' nk' : Nat} {ks : Nat → KY} (h : fkK r dT g kd bs' fg' m' nk' ks) : fkK r dT (mdS r dT g kI bs fg m nk a.1 a.2.1 a.2.2.1 a.2.2.2 M tk W) kd bs' fg' m' nk' ks := by
  obtain ⟨h1, h2, h3, ka, h4, h5⟩ := h
  refine ⟨by rw [md60 (by omega)]; exact h1, h2, h3, ka, by rw [md60 (by omega)]; exact h4, fun k hk => ?_⟩
  rw [md60 (by omega)]
  exact h5 k hk
