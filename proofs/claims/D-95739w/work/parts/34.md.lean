set_option maxRecDepth 100000
/-- the model's cells from id 100 on: kI bs fg m nk the dial, w x s t the state (waits, held, shown, typed), F its other ints (13 and 15 one more; 26 and 100, 101 the seeds), tk the token -/
def mdG (r : Nat → Nat) (dT : Nat → ClassId) (kI : Int32) (bs fg m nk w x s t : Nat) (F : Nat → Nat) (tk : Int64) (i : Nat) (f : Nat → Int32) : Option va_E := match i with
  | 0 => some (.inr (3, [.int kI, .int (nI bs), .int (nI fg), .int (nI m), .int (nI nk), .ref (r 101), .int (nI (F 6)), .ref (r 102), .int (nI (F 8)), .int (nI (F 9)), .long tk, .int (nI (F 11)), .int (nI (F 12)), .int (nI (F 13) - 1), .int (nI (F 14)), .int (nI (F 15) - 1), .int (nI (F 16)), .int (nI (F 17)), .int (nI (F 18)), .int (nI (F 19)), .ref (r 103), .int (nI s), .int (nI w), .int (nI x), .int (nI t), .int (nI (F 25)), .long (lN (F 26)), .int (nI (F 27)), .ref (r 104), .int (nI (F 29)), .ref (r 105), .ref (r 106), .ref (r 107), .ref (r 108), .ref (r 109), .ref (r 110), .ref (r 111), .ref (r 112), .ref (r 113), .ref (r 114), .ref (r 115)]))
  | 1 => some (.inl (dT 0, 36, .inl f))
  | 2 => some (.inl (dT 0, 400, .inl f))
  | 3 => some (.inl (dT 0, 32, .inl f))
  | 4 => some (.inl (dT 0, 6, .inl f))
  | 5 => some (.inl (dT 0, 80, .inl f))
  | 6 => some (.inl (dT 0, 18, .inl f))
  | 7 => some (.inl (dT 3, 2, .inr (.inl (fun j => lN (F (j + 100))))))
  | 8 => some (.inl (dT 2, 2, .inl f))
  | 9 => some (.inl (dT 0, 80000, .inl f))
  | 10 => some (.inl (dT 0, 80000, .inl f))
  | 11 => some (.inl (dT 0, 80000, .inl f))
  | 12 => some (.inl (dT 0, 80000, .inl f))
  | 13 => some (.inl (dT 0, 100, .inl f))
  | 14 => some (.inl (dT 0, 100, .inl f))
  | 15 => some (.inl (dT 0, 100, .inl f))
  | _ => none
def mdS (r : Nat → Nat) (dT : Nat → ClassId) (g : j_H) (kI : Int32) (bs fg m nk w x s t : Nat) (F : Nat → Nat) (tk : Int64) (V : Nat → Nat → Int32) : j_H := fun i => bif Nat.ble 100 i && Nat.blt i 116 then mdG r dT kI bs fg m nk w x s t F tk (i - 100) (V i) else g i
theorem md_t {i : Nat} (h1 : 100 ≤ i) (h2 : i < 116) : (Nat.ble 100 i && Nat.blt i 116) = true := by
  rw [Nat.ble_eq_true_of_le h1, blt_t h2]; rfl
theorem md_f {i : Nat} (h : i < 100 ∨ 116 ≤ i) : (Nat.ble 100 i && Nat.blt i 116) = false := by
  cases hb : (Nat.ble 100 i && Nat.blt i 116) with
  | false => rfl
  | true =>
    rw [Bool.and_eq_true] at hb
    have h1 := Nat.le_of_ble_eq_true hb.1
    have h2 : i < 116 := by have := hb.2; simp only [Nat.blt_eq] at this; exact this
    omega
theorem mdS_in {r : Nat → Nat} {dT : Nat → ClassId} {g : j_H} {kI : Int32} {bs fg m nk w x s t : Nat} {F : Nat → Nat} {tk : Int64} {V : Nat → Nat → Int32} {i : Nat} (h1 : 100 ≤ i) (h2 : i < 116) : mdS r dT g kI bs fg m nk w x s t F tk V i = mdG r dT kI bs fg m nk w x s t F tk (i - 100) (V i) := by
  unfold mdS; rw [md_t h1 h2, cond_true]
theorem mdS_out {r : Nat → Nat} {dT : Nat → ClassId} {g : j_H} {kI : Int32} {bs fg m nk w x s t : Nat} {F : Nat → Nat} {tk : Int64} {V : Nat → Nat → Int32} {i : Nat} (h : i < 100 ∨ 116 ≤ i) : mdS r dT g kI bs fg m nk w x s t F tk V i = g i := by
  unfold mdS; rw [md_f h, cond_false]
theorem mdS_V {r : Nat → Nat} {dT : Nat → ClassId} {g : j_H} {kI : Int32} {bs fg m nk w x s t : Nat} {F : Nat → Nat} {tk : Int64} {V : Nat → Nat → Int32} {i : Nat} {f : Nat → Int32} {e : va_E} (h1 : 100 ≤ i) (h2 : i < 116) (he : mdG r dT kI bs fg m nk w x s t F tk (i - 100) f = some e) : j_set (mdS r dT g kI bs fg m nk w x s t F tk V) i e = mdS r dT g kI bs fg m nk w x s t F tk (va_up V i f) := by
  funext k
  by_cases hk : k = i
  · subst hk
    rw [j_set_self, mdS_in h1 h2, va_up_self, he]
  · rw [j_set_ne hk]
    unfold mdS
    rw [va_up_ne _ _ hk]
theorem mdG_ob {r : Nat → Nat} {dT : Nat → ClassId} {kI kI' : Int32} {bs fg m nk w x s t bs' fg' m' nk' w' x' s' t' : Nat} {F F' : Nat → Nat} {tk tk' : Int64} (hF : F' 100 = F 100 ∧ F' 101 = F 101) {i : Nat} {f : Nat → Int32} (hi : i ≠ 0) (h7 : i ≠ 7) : mdG r dT kI' bs' fg' m' nk' w' x' s' t' F' tk' i f = mdG r dT kI bs fg m nk w x s t F tk i f := by
  unfold mdG
  split <;> first | rfl | exact absurd rfl hi | exact absurd rfl h7

theorem mdS_O {r : Nat → Nat} {dT : Nat → ClassId} {g : j_H} {kI : Int32} {bs fg m nk w x s t : Nat} {F : Nat → Nat} {tk : Int64} {V : Nat → Nat → Int32} {kI' : Int32} {bs' fg' m' nk' w' x' s' t' : Nat} {F' : Nat → Nat} {tk' : Int64} {e : va_E} (hF : ∀ j, F' (j + 100) = F (j + 100)) (he : mdG r dT kI' bs' fg' m' nk' w' x' s' t' F' tk' 0 (V 100) = some e) : j_set (mdS r dT g kI bs fg m nk w x s t F tk V) 100 e = mdS r dT g kI' bs' fg' m' nk' w' x' s' t' F' tk' V := by
  funext k
  by_cases hk : k = 100
  · subst hk
    rw [j_set_self, mdS_in (by decide) (by decide)]
    exact he.symm
  · rw [j_set_ne hk]
    by_cases hin : 100 ≤ k ∧ k < 116
    · rw [mdS_in hin.1 hin.2, mdS_in hin.1 hin.2]
      by_cases h7 : k - 100 = 7
      · rw [h7]
        exact congrArg (fun z => some (Sum.inl (dT 3, 2, Sum.inr (Sum.inl z)))) (funext fun j => by rw [hF j])
      · exact (mdG_ob ⟨hF 0, hF 1⟩ (by omega) h7).symm
    · rw [mdS_out (by omega), mdS_out (by omega)]
section MDR
variable {G : j_G} {cc : ByteArray} {own : String} {nL : Nat} {ret : Option FieldType} {nm : String} {R : Room} {xt : Code → Prop} {Q : j_Q} {mc ms cells slots : Nat} {nx pc : Nat} {L : List (Option Value)} {st : List Value} {r : Nat → Nat} {dT : Nat → ClassId} {g : j_H} {kI : Int32} {bs fg m nk w x s t : Nat} {F : Nat → Nat} {tk : Int64} {V : Nat → Nat → Int32} {i : Nat} {e : va_E} {l : List (Nat × (Nat → Int32))}
theorem j_mdA {w' x' s' t' : Nat} (he : mdG r dT kI bs fg m nk w' x' s' t' F tk 0 (V 100) = some e) (k : J G (cc, own, nL, ret, nm, R, xt) Q mc ms cells slots r (mdS r dT g kI bs fg m nk w' x' s' t' F tk V) nx pc L st) : J G (cc, own, nL, ret, nm, R, xt) Q mc ms cells slots r (j_set (mdS r dT g kI bs fg m nk w x s t F tk V) 100 e) nx pc L st := by
  rw [mdS_O (fun _ => rfl) he]; exact k
theorem j_mdF {q v : Nat} (hq : q < 100) (he : mdG r dT kI bs fg m nk w x s t (va_up F q v) tk 0 (V 100) = some e) (k : J G (cc, own, nL, ret, nm, R, xt) Q mc ms cells slots r (mdS r dT g kI bs fg m nk w x s t (va_up F q v) tk V) nx pc L st) : J G (cc, own, nL, ret, nm, R, xt) Q mc ms cells slots r (j_set (mdS r dT g kI bs fg m nk w x s t F tk V) 100 e) nx pc L st := by
  rw [mdS_O (fun _ => va_up_ne _ _ (by omega)) he]; exact k
theorem j_mdW {f : Nat → Int32} (h1 : 100 ≤ i) (h2 : i < 116) (he : mdG r dT kI bs fg m nk w x s t F tk (i - 100) f = some e) (k : J G (cc, own, nL, ret, nm, R, xt) Q mc ms cells slots r (mdS r dT g kI bs fg m nk w x s t F tk (vo V (v_upd l i f))) nx pc L st) : J G (cc, own, nL, ret, nm, R, xt) Q mc ms cells slots r (j_set (mdS r dT g kI bs fg m nk w x s t F tk (vo V l)) i e) nx pc L st := by
  rw [mdS_V h1 h2 he, vo_up]; exact k
end MDR
theorem m_round {kd m sg x y : Nat} (hk : kd ≠ 1) (hm : 0 < m) (hm2 : m ≤ 100) (hx : x < m) (hy : y < m) {t : Int32} (ht : t = vI sg x y - vI sg x y / nI m * nI m + nI m) : t - t / nI m * nI m = nI (reck kd m sg x y) := by
  obtain ⟨h1, h2⟩ := reck_round (kd := kd) (sg := sg) hk hm hm2 hx hy rfl
  have hl : reck kd m sg x y < m := reck_lt hm hx
  by_cases h0 : 0 ≤ vI sg x y - vI sg x y / nI m * nI m
  · rw [h1 h0, nI_add] at ht
    rw [ht, pk_rem (by omega) hm (by omega), Nat.add_mod_right, Nat.mod_eq_of_lt hl]
  · rw [h2 h0] at ht
    rw [ht, pk_rem (by omega) hm (by omega), Nat.mod_eq_of_lt hl]
theorem m_stop {m sg x y : Nat} (hm : 2 ≤ m) (hm2 : m ≤ 100) (hx : x < m) (hy : y < m) {v : Int32} (hv : v = vI sg x y) : (v < 0 → 0 = nI (reck 1 m sg x y)) ∧ (¬ v < 0 → ¬ v < nI m → nI m - 1 = nI (reck 1 m sg x y)) ∧ (¬ v < 0 → v < nI m → v = nI (reck 1 m sg x y)) := by
  have h := reck_stop (sg := sg) (by omega) hm2 hx hy
  rw [← hv] at h
  have e1 : nI m - 1 = nI (m - 1) := pk_sub (b := 1) (by omega)
  have t1 := nI_toInt (n := m - 1) (by omega)
  have t2 := nI_toInt (n := m) (by omega)
  rw [e1] at h ⊢
  refine ⟨fun hn => ?_, fun h0 h1 => ?_, fun h0 h1 => ?_⟩
  · rw [if_pos (c := v < nI (m - 1)), if_neg] at h
    · exact h
    · simp only [Int32.lt_iff_toInt_lt, Int32.toInt_zero] at *; omega
    · simp only [Int32.lt_iff_toInt_lt, Int32.toInt_zero] at *; omega
  · rw [if_neg (c := v < nI (m - 1)), if_pos] at h
    · exact h
    · simp only [Int32.lt_iff_toInt_lt, Int32.toInt_zero] at *; omega
    · simp only [Int32.lt_iff_toInt_lt, Int32.toInt_zero] at *; omega
  · by_cases h2 : v < nI (m - 1)
    · rw [if_pos h2] at h
      by_cases h3 : 0 < v
      · rw [if_pos h3] at h; exact h
      · rw [if_neg h3] at h
        rw [← h]
        apply Int32.toInt_inj.mp
        simp only [Int32.lt_iff_toInt_lt, Int32.toInt_zero] at *; omega
    · rw [if_neg h2, if_pos] at h
      · rw [← h]
        apply Int32.toInt_inj.mp
        simp only [Int32.lt_iff_toInt_lt, Int32.toInt_zero] at *; omega
      · simp only [Int32.lt_iff_toInt_lt, Int32.toInt_zero] at *; omega
set_option maxHeartbeats 4000000 in
theorem m_start {l : Launch} {D : va_G} {dT : Nat → ClassId} {H0 : Heap} {r : Nat → Nat} {nx : Nat} {g : j_H} {kI : Int32} {bs fg m nk w x s t : Nat} {F : Nat → Nat} {tk : Int64} {V : Nat → Nat → Int32}  : MC (gG l D dT H0) yX3_start cX3_start 1 none 0 0 0 [.ref (r 100)] r (mdS r dT g kI bs fg m nk w x s t F tk V) nx (jq_v r (mdS r dT g kI bs fg m nk 0 0 0 0 F tk V) nx) := by
  refine MC.ofJ [some (.ref (r 100))] rfl (Nat.le_of_ble_eq_true rfl) (by decide) ?_
  refine j_aload_n dX3_start_0 rfl ?_
  refine j_iconst (v := 0) dX3_start_1 (by decide) ?_
  refine j_put 21 dX3_start_2 (by first | rfl | assumption) in_X3 tyX3_ok nmX3 rfl (by decide) q1120 rfl rfl rfl (by first | decide | simp) ?_
  refine j_mdA (w' := w) (x' := x) (s' := 0) (t' := t) rfl ?_
  refine j_aload_n dX3_start_5 rfl ?_
  refine j_iconst (v := 0) dX3_start_6 (by decide) ?_
  refine j_put 22 dX3_start_7 (by first | rfl | assumption) in_X3 tyX3_ok nmX3 rfl (by decide) q1121 rfl rfl rfl (by first | decide | simp) ?_
  refine j_mdA (w' := 0) (x' := x) (s' := 0) (t' := t) rfl ?_
  refine j_aload_n dX3_start_10 rfl ?_
  refine j_iconst (v := 0) dX3_start_11 (by decide) ?_
  refine j_put 23 dX3_start_12 (by first | rfl | assumption) in_X3 tyX3_ok nmX3 rfl (by decide) q1122 rfl rfl rfl (by first | decide | simp) ?_
  refine j_mdA (w' := 0) (x' := 0) (s' := 0) (t' := t) rfl ?_
  refine j_aload_n dX3_start_15 rfl ?_
  refine j_iconst (v := 0) dX3_start_16 (by decide) ?_
  refine j_put 24 dX3_start_17 (by first | rfl | assumption) in_X3 tyX3_ok nmX3 rfl (by decide) q1123 rfl rfl rfl (by first | decide | simp) ?_
  refine j_mdA (w' := 0) (x' := 0) (s' := 0) (t' := 0) rfl ?_
  refine j_vret dX3_start_20 rfl (Nat.le_refl _) (Nat.le_refl _) ?_
  exact jr_v rfl
set_option maxHeartbeats 4000000 in
theorem m_bound {l : Launch} {D : va_G} {dT : Nat → ClassId} {H0 : Heap} {r : Nat → Nat} {nx : Nat} {g : j_H} {kd bs fg m nk : Nat} {a : A4} {F : Nat → Nat} {tk : Int64} {V : Nat → Nat → Int32} (hD : okD kd bs m) (sg x y : Nat) (hx : x < m) (hy : y < m) (v : Int32) (hv : v = vI sg x y) : MC (gG l D dT H0) yX3_bound cX3_bound 2 (some .int) 0 0 0 [.ref (r 100), .int v] r (mdS r dT g (nI kd) bs fg m nk a.1 a.2.1 a.2.2.1 a.2.2.2 F tk V) nx (jq_i (nI (reck kd m sg x y)) r (mdS r dT g (nI kd) bs fg m nk a.1 a.2.1 a.2.2.1 a.2.2.2 F tk V) nx) := by
  have hm := hD.pos
  have hm2 := hD.le
  have hm3 : 2 ≤ m := by have := hD.2.1; have := hD.2.2.2.1; omega
  have hkd := hD.1
  obtain ⟨s1, s2, s3⟩ := m_stop hm3 hm2 hx hy hv
  refine MC.ofJ [some (.ref (r 100)), some (.int v)] rfl (Nat.le_of_ble_eq_true rfl) (by decide) ?_
  refine j_aload_n dX3_bound_0 rfl ?_
  refine j_get 0 dX3_bound_1 (by first | rfl | assumption) in_X3 rfl (by decide) q1099 rfl ?_
  refine j_if_ne (tgt := 24) dX3_bound_4 (by decide) (fun c4 => ?_) (fun c4 => ?_)
  · skip
    have hk1 : kd = 1 := by
      have : ¬ kd = 0 := fun q => c4 (by rw [q]; rfl)
      omega
    subst hk1
    refine j_iload_n dX3_bound_24 rfl ?_
    refine j_if_ge (tgt := 32) dX3_bound_25 (by decide) (fun c25 => ?_) (fun c25 => ?_)
    · skip
      refine j_iload_n dX3_bound_32 rfl ?_
      refine j_aload_n dX3_bound_33 rfl ?_
      refine j_get 3 dX3_bound_34 (by first | rfl | assumption) in_X3 rfl (by decide) q1102 rfl ?_
      refine j_icmp_lt (tgt := 49) dX3_bound_37 (by decide) (fun c37 => ?_) (fun c37 => ?_)
      · skip
        refine j_iload_n dX3_bound_49 rfl ?_
        refine j_iret dX3_bound_50 rfl rfl (Nat.le_refl _) (Nat.le_refl _) ?_
        exact jr_i (s3 (Int32.not_lt.mpr c25) c37)
      · skip
        refine j_aload_n dX3_bound_40 rfl ?_
        refine j_get 3 dX3_bound_41 (by first | rfl | assumption) in_X3 rfl (by decide) q1102 rfl ?_
        refine j_iconst (v := 1) dX3_bound_44 (by decide) ?_
        refine j_isub dX3_bound_45 ?_
        refine j_goto (tgt := 50) dX3_bound_46 (by decide) ?_
        refine j_iret dX3_bound_50 rfl rfl (Nat.le_refl _) (Nat.le_refl _) ?_
        exact jr_i (s2 (Int32.not_lt.mpr c25) c37)
    · skip
      refine j_iconst (v := 0) dX3_bound_28 (by decide) ?_
      refine j_goto (tgt := 50) dX3_bound_29 (by decide) ?_
      refine j_iret dX3_bound_50 rfl rfl (Nat.le_refl _) (Nat.le_refl _) ?_
      exact jr_i (s1 (Int32.not_le.mp c25))
  · skip
    have hk0 : kd ≠ 1 := fun q => by rw [q] at c4; exact absurd c4 (by decide)
    refine j_iload_n dX3_bound_7 rfl ?_
    refine j_aload_n dX3_bound_8 rfl ?_
    refine j_get 3 dX3_bound_9 (by first | rfl | assumption) in_X3 rfl (by decide) q1102 rfl ?_
    refine j_irem dX3_bound_12 (nI_ne hm (by omega)) ?_
    refine j_aload_n dX3_bound_13 rfl ?_
    refine j_get 3 dX3_bound_14 (by first | rfl | assumption) in_X3 rfl (by decide) q1102 rfl ?_
    refine j_iadd dX3_bound_17 ?_
    refine j_aload_n dX3_bound_18 rfl ?_
    refine j_get 3 dX3_bound_19 (by first | rfl | assumption) in_X3 rfl (by decide) q1102 rfl ?_
    refine j_irem dX3_bound_22 (nI_ne hm (by omega)) ?_
    refine j_iret dX3_bound_23 rfl rfl (Nat.le_refl _) (Nat.le_refl _) ?_
    exact jr_i (by subst hv; exact m_round hk0 hm hm2 hx hy rfl)
set_option maxHeartbeats 4000000 in
theorem m_reckon {l : Launch} {D : va_G} {dT : Nat → ClassId} {H0 : Heap} {r : Nat → Nat} {nx : Nat} {g : j_H} {kd bs fg m nk : Nat} {a : A4} {F : Nat → Nat} {tk : Int64} {V : Nat → Nat → Int32} (hD : okD kd bs m) (sg x y : Nat) (hs : sg ≤ 3) (hx : x < m) (hy : y < m) : MC (gG l D dT H0) yX3_reckon cX3_reckon 4 (some .int) 1 0 0 [.ref (r 100), .int (nI sg), .int (nI x), .int (nI y)] r (mdS r dT g (nI kd) bs fg m nk a.1 a.2.1 a.2.2.1 a.2.2.2 F tk V) nx (jq_i (nI (reck kd m sg x y)) r (mdS r dT g (nI kd) bs fg m nk a.1 a.2.1 a.2.2.1 a.2.2.2 F tk V) nx) := by
  refine MC.ofJ [some (.ref (r 100)), some (.int (nI sg)), some (.int (nI x)), some (.int (nI y))] rfl (Nat.le_of_ble_eq_true rfl) (by decide) ?_
  refine j_aload_n dX3_reckon_0 rfl ?_
  refine j_join (tgt := 26) (fun v => v = vI sg x y) (fun v1 hv1 => ?_) (fun kj1 => ?_)
  · skip
    refine j_callVi (m_bound hD sg x y hx hy _ hv1) dX3_reckon_26 pmX3_bound q1324 q1326 qs40 (by first | rfl | assumption) rfl rfl rfl ⟨Nat.le_of_ble_eq_true rfl, Nat.le_of_ble_eq_true rfl⟩ ⟨Nat.le_of_ble_eq_true rfl, Nat.le_of_ble_eq_true rfl⟩ rfl (Nat.le_of_ble_eq_true rfl) ?_
    refine j_iret dX3_reckon_29 rfl rfl (Nat.le_refl _) (Nat.le_refl _) ?_
    exact jr_i rfl
  · skip
    refine j_iload_n dX3_reckon_1 rfl ?_
    refine j_iconst (v := 1) dX3_reckon_2 (by decide) ?_
    refine j_icmp_ne (tgt := 12) dX3_reckon_3 (by decide) (fun c3 => ?_) (fun c3 => ?_)
    · skip
      have c3 : ¬ sg = 1 := fun q => c3 (by rw [q]; rfl)
      refine j_iload_n dX3_reckon_12 rfl ?_
      refine j_iconst (v := 2) dX3_reckon_13 (by decide) ?_
      refine j_icmp_ne (tgt := 23) dX3_reckon_14 (by decide) (fun c14 => ?_) (fun c14 => ?_)
      · skip
        have c14 : ¬ sg = 2 := fun q => c14 (by rw [q]; rfl)
        have hj : nI x * nI y = vI sg x y := by unfold vI; rw [if_neg c3, if_neg c14]
        refine j_iload_n dX3_reckon_23 rfl ?_
        refine j_iload_n dX3_reckon_24 rfl ?_
        refine j_imul dX3_reckon_25 ?_
        exact kj1 _ hj
      · skip
        have c14 : sg = 2 := (nI_eq (by omega) (by decide)).mp (show nI sg = nI 2 from c14)
        have hj : nI x - nI y = vI sg x y := by unfold vI; rw [if_neg c3, if_pos c14]
        refine j_iload_n dX3_reckon_17 rfl ?_
        refine j_iload_n dX3_reckon_18 rfl ?_
        refine j_isub dX3_reckon_19 ?_
        refine j_goto (tgt := 26) dX3_reckon_20 (by decide) ?_
        exact kj1 _ hj
    · skip
      have c3 : sg = 1 := (nI_eq (by omega) (by decide)).mp (show nI sg = nI 1 from c3)
      have hj : nI x + nI y = vI sg x y := by unfold vI; rw [if_pos c3]
      refine j_iload_n dX3_reckon_6 rfl ?_
      refine j_iload_n dX3_reckon_7 rfl ?_
      refine j_iadd dX3_reckon_8 ?_
      refine j_goto (tgt := 26) dX3_reckon_9 (by decide) ?_
      exact kj1 _ hj
theorem fig_e1 {kd bs m d : Nat} {a : A4} {v : Nat} (h : a.2.2.2 = 1) (hv : (if kd = 1 ∧ m ≤ a.2.2.1 * bs + d then a.2.2.1 else (a.2.2.1 * bs + d) % m) = v) : figA kd bs m d a = (a.1, a.2.1, v, 1) := by
  unfold figA
  rw [if_pos h, hv]
theorem fig_e0 {kd bs m d : Nat} {a : A4} (h : ¬ a.2.2.2 = 1) : figA kd bs m d a = (a.1, a.2.1, d, 1) := by
  unfold figA
  rw [if_neg h]
/-- the model's number of a state -/
def encM (m : Nat) (a : A4) : Nat := ((a.2.2.1 * 4 + a.1) * m + a.2.1) * 2 + a.2.2.2
def decM (m n : Nat) : A4 := (n / 2 / m % 4, n / 2 % m, n / 8 / m, n % 2)
theorem encM_lt {m : Nat} {a : A4} (h : okA m a) : encM m a < 8 * m * m := by
  obtain ⟨h1, h2, h3, h4⟩ := h
  unfold encM
  have h5 : (a.2.2.1 * 4 + a.1) * m + a.2.1 < 4 * m * m := by
    have : (a.2.2.1 * 4 + a.1 + 1) * m ≤ 4 * m * m := Nat.mul_le_mul_right m (by omega)
    rw [Nat.add_mul] at this
    omega
  have e : 8 * m * m = 2 * (4 * m * m) := by rw [show 8 = 2 * 4 from rfl, Nat.mul_assoc 2 4 m, Nat.mul_assoc 2 (4 * m) m]
  omega
theorem decM_encM {m : Nat} {a : A4} (h : okA m a) : decM m (encM m a) = a := by
  obtain ⟨h1, h2, h3, h4⟩ := h
  unfold decM encM
  have e2 : (((a.2.2.1 * 4 + a.1) * m + a.2.1) * 2 + a.2.2.2) / 2 = (a.2.2.1 * 4 + a.1) * m + a.2.1 := by omega
  have e3 : ((a.2.2.1 * 4 + a.1) * m + a.2.1) / m = a.2.2.1 * 4 + a.1 := by
    rw [Nat.mul_comm, Nat.mul_add_div (by omega), Nat.div_eq_of_lt h2, Nat.add_zero]
  have e4 : ((a.2.2.1 * 4 + a.1) * m + a.2.1) % m = a.2.1 := by
    rw [Nat.mul_comm, Nat.mul_add_mod, Nat.mod_eq_of_lt h2]
  have e8 : (((a.2.2.1 * 4 + a.1) * m + a.2.1) * 2 + a.2.2.2) / 8 / m = a.2.2.1 := by
    rw [show (8 : Nat) = 2 * 4 from rfl, ← Nat.div_div_eq_div_mul, e2, Nat.div_div_eq_div_mul, Nat.mul_comm 4 m, ← Nat.div_div_eq_div_mul, e3]
    omega
  rw [e8, e2, e3, e4, show (a.2.2.1 * 4 + a.1) % 4 = a.1 by omega, show (((a.2.2.1 * 4 + a.1) * m + a.2.1) * 2 + a.2.2.2) % 2 = a.2.2.2 by omega]
theorem decM_ok {m n : Nat} (hm : 0 < m) (h : n < 8 * m * m) : okA m (decM m n) := by
  refine ⟨Nat.mod_lt _ (by decide), Nat.mod_lt _ hm, ?_, Nat.mod_lt _ (by decide)⟩
  show n / 8 / m < m
  rw [Nat.div_div_eq_div_mul]
  exact Nat.div_lt_of_lt_mul h
theorem encM_decM {m n : Nat} : encM m (decM m n) = n := by
  show ((n / 8 / m * 4 + n / 2 / m % 4) * m + n / 2 % m) * 2 + n % 2 = n
  have e1 : n / 8 / m = n / 2 / m / 4 := by
    rw [show (8 : Nat) = 2 * 4 from rfl, ← Nat.div_div_eq_div_mul, Nat.div_div_eq_div_mul, Nat.mul_comm 4 m, ← Nat.div_div_eq_div_mul]
  rw [e1, show n / 2 / m / 4 * 4 + n / 2 / m % 4 = n / 2 / m by omega, Nat.mul_comm (n / 2 / m) m, Nat.div_add_mod]
  omega
set_option maxHeartbeats 4000000 in
theorem m_figure {l : Launch} {D : va_G} {dT : Nat → ClassId} {H0 : Heap} {r : Nat → Nat} {nx : Nat} {g : j_H} {kd bs fg m nk : Nat} {a : A4} {F : Nat → Nat} {tk : Int64} {V : Nat → Nat → Int32} (hD : okD kd bs m) (ha : okA m a) (d : Nat) (hd : d < 1000) : MC (gG l D dT H0) yX3_figure cX3_figure 3 none 0 0 0 [.ref (r 100), .int (nI d)] r (mdS r dT g (nI kd) bs fg m nk a.1 a.2.1 a.2.2.1 a.2.2.2 F tk V) nx (jq_v r (mdS r dT g (nI kd) bs fg m nk (figA kd bs m d a).1 (figA kd bs m d a).2.1 (figA kd bs m d a).2.2.1 (figA kd bs m d a).2.2.2 F tk V) nx) := by
  have hm := hD.pos
  have hm2 := hD.le
  have hm3 : 2 ≤ m := by have := hD.2.1; have := hD.2.2.2.1; omega
  have hkd := hD.1
  have ha4 := ha.2.2.2
  have hsb : a.2.2.1 * bs + d < 2 ^ 31 := by
    have h1 : a.2.2.1 * bs ≤ 100 * 10 := Nat.mul_le_mul (by have := ha.2.2.1; omega) hD.2.2.1
    omega
  refine MC.ofJ [some (.ref (r 100)), some (.int (nI d)), none] rfl (Nat.le_of_ble_eq_true rfl) (by decide) ?_
  refine j_aload_n dX3_figure_0 rfl ?_
  refine j_get 21 dX3_figure_1 (by first | rfl | assumption) in_X3 rfl (by decide) q1120 rfl ?_
  refine j_aload_n dX3_figure_4 rfl ?_
  refine j_get 1 dX3_figure_5 (by first | rfl | assumption) in_X3 rfl (by decide) q1100 rfl ?_
  refine j_imul dX3_figure_8 ?_
  refine j_iload_n dX3_figure_9 rfl ?_
  refine j_iadd dX3_figure_10 ?_
  refine j_eqi (show _ = nI (a.2.2.1 * bs + d) by rw [pk_mul, nI_add]) ?_
  refine j_istore_n dX3_figure_11 (by decide) rfl ?_
  refine j_aload_n dX3_figure_12 rfl ?_
  refine j_get 24 dX3_figure_13 (by first | rfl | assumption) in_X3 rfl (by decide) q1123 rfl ?_
  refine j_if_ne (tgt := 27) dX3_figure_16 (by decide) (fun c16 => ?_) (fun c16 => ?_)
  · skip
    have c16 : a.2.2.2 = 1 := by
      have : ¬ a.2.2.2 = 0 := fun q => c16 (by rw [q]; rfl)
      omega
    refine j_aload_n dX3_figure_27 rfl ?_
    refine j_get 0 dX3_figure_28 (by first | rfl | assumption) in_X3 rfl (by decide) q1099 rfl ?_
    refine j_if_ne (tgt := 47) dX3_figure_31 (by decide) (fun c31 => ?_) (fun c31 => ?_)
    · skip
      have hk1 : kd = 1 := by
        have : ¬ kd = 0 := fun q => c31 (by rw [q]; rfl)
        omega
      refine j_aload_n dX3_figure_47 rfl ?_
      refine j_join (tgt := 64) (fun v => v = nI (if kd = 1 ∧ m ≤ a.2.2.1 * bs + d then a.2.2.1 else (a.2.2.1 * bs + d) % m)) (fun v48 hv48 => ?_) (fun kj48 => ?_)
      · skip
        subst hv48
        have hfg := fig_e1 (kd := kd) (bs := bs) (m := m) (d := d) c16 rfl
        refine j_put 21 dX3_figure_64 (by first | rfl | assumption) in_X3 tyX3_ok nmX3 rfl (by decide) q1120 rfl rfl rfl (by first | decide | simp) ?_
        refine j_mdA (w' := a.1) (x' := a.2.1) (s' := (if kd = 1 ∧ m ≤ a.2.2.1 * bs + d then a.2.2.1 else (a.2.2.1 * bs + d) % m)) (t' := a.2.2.2) rfl ?_
        refine j_aload_n dX3_figure_67 rfl ?_
        refine j_iconst (v := 1) dX3_figure_68 (by decide) ?_
        refine j_put 24 dX3_figure_69 (by first | rfl | assumption) in_X3 tyX3_ok nmX3 rfl (by decide) q1123 rfl rfl rfl (by first | decide | simp) ?_
        refine j_mdA (w' := a.1) (x' := a.2.1) (s' := (figA kd bs m d a).2.2.1) (t' := 1) (by rw [hfg]; rfl) ?_
        refine j_vret dX3_figure_72 rfl (Nat.le_refl _) (Nat.le_refl _) ?_
        refine jr_v ?_
        rw [hfg]
      · skip
        refine j_iload_n dX3_figure_48 rfl ?_
        refine j_aload_n dX3_figure_49 rfl ?_
        refine j_get 3 dX3_figure_50 (by first | rfl | assumption) in_X3 rfl (by decide) q1102 rfl ?_
        refine j_icmp_lt (tgt := 63) dX3_figure_53 (by decide) (fun c53 => ?_) (fun c53 => ?_)
        · skip
          have c53 : a.2.2.1 * bs + d < m := (nI_ltI hsb (by omega)).mp c53
          have hj : nI (a.2.2.1 * bs + d) = nI (if kd = 1 ∧ m ≤ a.2.2.1 * bs + d then a.2.2.1 else (a.2.2.1 * bs + d) % m) := by rw [if_neg (by omega), Nat.mod_eq_of_lt c53]
          refine j_iload_n dX3_figure_63 rfl ?_
          exact kj48 _ hj
        · skip
          have c53 : ¬ a.2.2.1 * bs + d < m := fun q => c53 (nI_lt q (by omega))
          have hj : nI a.2.2.1 = nI (if kd = 1 ∧ m ≤ a.2.2.1 * bs + d then a.2.2.1 else (a.2.2.1 * bs + d) % m) := by rw [if_pos ⟨hk1, by omega⟩]
          refine j_aload_n dX3_figure_56 rfl ?_
          refine j_get 21 dX3_figure_57 (by first | rfl | assumption) in_X3 rfl (by decide) q1120 rfl ?_
          refine j_goto (tgt := 64) dX3_figure_60 (by decide) ?_
          exact kj48 _ hj
    · skip
      have hk0 : ¬ (kd = 1 ∧ m ≤ a.2.2.1 * bs + d) := fun q => by rw [q.1] at c31; exact absurd c31 (by decide)
      have hfg := fig_e1 (kd := kd) (bs := bs) (m := m) (d := d) c16 (if_neg hk0)
      refine j_aload_n dX3_figure_34 rfl ?_
      refine j_iload_n dX3_figure_35 rfl ?_
      refine j_aload_n dX3_figure_36 rfl ?_
      refine j_get 3 dX3_figure_37 (by first | rfl | assumption) in_X3 rfl (by decide) q1102 rfl ?_
      refine j_irem dX3_figure_40 (nI_ne hm (by omega)) ?_
      refine j_eqi (show _ = nI ((a.2.2.1 * bs + d) % m) from pk_rem hsb hm (by omega)) ?_
      refine j_put 21 dX3_figure_41 (by first | rfl | assumption) in_X3 tyX3_ok nmX3 rfl (by decide) q1120 rfl rfl rfl (by first | decide | simp) ?_
      refine j_mdA (w' := a.1) (x' := a.2.1) (s' := ((a.2.2.1 * bs + d) % m)) (t' := a.2.2.2) rfl ?_
      refine j_goto (tgt := 67) dX3_figure_44 (by decide) ?_
      refine j_aload_n dX3_figure_67 rfl ?_
      refine j_iconst (v := 1) dX3_figure_68 (by decide) ?_
      refine j_put 24 dX3_figure_69 (by first | rfl | assumption) in_X3 tyX3_ok nmX3 rfl (by decide) q1123 rfl rfl rfl (by first | decide | simp) ?_
      refine j_mdA (w' := a.1) (x' := a.2.1) (s' := (figA kd bs m d a).2.2.1) (t' := 1) (by rw [hfg]; rfl) ?_
      refine j_vret dX3_figure_72 rfl (Nat.le_refl _) (Nat.le_refl _) ?_
      refine jr_v ?_
      rw [hfg]
  · skip
    have c16 : ¬ a.2.2.2 = 1 := fun q => by rw [q] at c16; exact absurd c16 (by decide)
    have hfg := fig_e0 (kd := kd) (bs := bs) (m := m) (d := d) c16
    refine j_aload_n dX3_figure_19 rfl ?_
    refine j_iload_n dX3_figure_20 rfl ?_
    refine j_put 21 dX3_figure_21 (by first | rfl | assumption) in_X3 tyX3_ok nmX3 rfl (by decide) q1120 rfl rfl rfl (by first | decide | simp) ?_
    refine j_mdA (w' := a.1) (x' := a.2.1) (s' := d) (t' := a.2.2.2) rfl ?_
    refine j_goto (tgt := 67) dX3_figure_24 (by decide) ?_
    refine j_aload_n dX3_figure_67 rfl ?_
    refine j_iconst (v := 1) dX3_figure_68 (by decide) ?_
    refine j_put 24 dX3_figure_69 (by first | rfl | assumption) in_X3 tyX3_ok nmX3 rfl (by decide) q1123 rfl rfl rfl (by first | decide | simp) ?_
    refine j_mdA (w' := a.1) (x' := a.2.1) (s' := (figA kd bs m d a).2.2.1) (t' := 1) (by rw [hfg]; rfl) ?_
    refine j_vret dX3_figure_72 rfl (Nat.le_refl _) (Nat.le_refl _) ?_
    refine jr_v ?_
    rw [hfg]
set_option maxHeartbeats 4000000 in
theorem m_states {l : Launch} {D : va_G} {dT : Nat → ClassId} {H0 : Heap} {r : Nat → Nat} {nx : Nat} {g : j_H} {kI : Int32} {bs fg m nk w x s t : Nat} {F : Nat → Nat} {tk : Int64} {V : Nat → Nat → Int32}  : MC (gG l D dT H0) yX3_states cX3_states 1 (some .int) 0 0 0 [.ref (r 100)] r (mdS r dT g kI bs fg m nk w x s t F tk V) nx (jq_i (nI (8 * m * m)) r (mdS r dT g kI bs fg m nk w x s t F tk V) nx) := by
  refine MC.ofJ [some (.ref (r 100))] rfl (Nat.le_of_ble_eq_true rfl) (by decide) ?_
  refine j_bipush (v := 8) dX3_states_0 (by decide) ?_
  refine j_aload_n dX3_states_2 rfl ?_
  refine j_get 3 dX3_states_3 (by first | rfl | assumption) in_X3 rfl (by decide) q1102 rfl ?_
  refine j_imul dX3_states_6 ?_
  refine j_aload_n dX3_states_7 rfl ?_
  refine j_get 3 dX3_states_8 (by first | rfl | assumption) in_X3 rfl (by decide) q1102 rfl ?_
  refine j_imul dX3_states_11 ?_
  refine j_iret dX3_states_12 rfl rfl (Nat.le_refl _) (Nat.le_refl _) ?_
  exact jr_i (by rw [show (8 : Int32) = nI 8 from rfl, pk_mul, pk_mul])
set_option maxHeartbeats 4000000 in
theorem m_shownIn {l : Launch} {D : va_G} {dT : Nat → ClassId} {H0 : Heap} {r : Nat → Nat} {nx : Nat} {g : j_H} {kI : Int32} {bs fg m nk w x s t : Nat} {F : Nat → Nat} {tk : Int64} {V : Nat → Nat → Int32} (hm : 0 < m) (hm2 : m ≤ 100) (n : Nat) (hn : n < 2 ^ 31) : MC (gG l D dT H0) yX3_shownIn cX3_shownIn 2 (some .int) 0 0 0 [.ref (r 100), .int (nI n)] r (mdS r dT g kI bs fg m nk w x s t F tk V) nx (jq_i (nI (n / 8 / m)) r (mdS r dT g kI bs fg m nk w x s t F tk V) nx) := by
  refine MC.ofJ [some (.ref (r 100)), some (.int (nI n))] rfl (Nat.le_of_ble_eq_true rfl) (by decide) ?_
  refine j_iload_n dX3_shownIn_0 rfl ?_
  refine j_bipush (v := 8) dX3_shownIn_1 (by decide) ?_
  refine j_idiv dX3_shownIn_3 (by decide) ?_
  refine j_eqi (show _ = nI (n / 8) from pk_div (d := 8) hn (by decide) (by decide)) ?_
  refine j_aload_n dX3_shownIn_4 rfl ?_
  refine j_get 3 dX3_shownIn_5 (by first | rfl | assumption) in_X3 rfl (by decide) q1102 rfl ?_
  refine j_idiv dX3_shownIn_8 (nI_ne hm (by omega)) ?_
  refine j_iret dX3_shownIn_9 rfl rfl (Nat.le_refl _) (Nat.le_refl _) ?_
  exact jr_i (pk_div (by omega) hm (by omega))
set_option maxHeartbeats 4000000 in
theorem m_stateNow {l : Launch} {D : va_G} {dT : Nat → ClassId} {H0 : Heap} {r : Nat → Nat} {nx : Nat} {g : j_H} {kI : Int32} {bs fg m nk : Nat} {a : A4} {F : Nat → Nat} {tk : Int64} {V : Nat → Nat → Int32} (ht : a.2.2.2 < 2) : MC (gG l D dT H0) yX3_stateNow cX3_stateNow 1 (some .int) 0 0 0 [.ref (r 100)] r (mdS r dT g kI bs fg m nk a.1 a.2.1 a.2.2.1 a.2.2.2 F tk V) nx (jq_i (nI (encM m a)) r (mdS r dT g kI bs fg m nk a.1 a.2.1 a.2.2.1 a.2.2.2 F tk V) nx) := by
  refine MC.ofJ [some (.ref (r 100))] rfl (Nat.le_of_ble_eq_true rfl) (by decide) ?_
  refine j_aload_n dX3_stateNow_0 rfl ?_
  refine j_get 21 dX3_stateNow_1 (by first | rfl | assumption) in_X3 rfl (by decide) q1120 rfl ?_
  refine j_iconst (v := 4) dX3_stateNow_4 (by decide) ?_
  refine j_imul dX3_stateNow_5 ?_
  refine j_aload_n dX3_stateNow_6 rfl ?_
  refine j_get 22 dX3_stateNow_7 (by first | rfl | assumption) in_X3 rfl (by decide) q1121 rfl ?_
  refine j_iadd dX3_stateNow_10 ?_
  refine j_aload_n dX3_stateNow_11 rfl ?_
  refine j_get 3 dX3_stateNow_12 (by first | rfl | assumption) in_X3 rfl (by decide) q1102 rfl ?_
  refine j_imul dX3_stateNow_15 ?_
  refine j_aload_n dX3_stateNow_16 rfl ?_
  refine j_get 23 dX3_stateNow_17 (by first | rfl | assumption) in_X3 rfl (by decide) q1122 rfl ?_
  refine j_iadd dX3_stateNow_20 ?_
  refine j_iconst (v := 2) dX3_stateNow_21 (by decide) ?_
  refine j_imul dX3_stateNow_22 ?_
  refine j_join (tgt := 35) (fun z => z = nI a.2.2.2) (fun v23 hv23 => ?_) (fun kj23 => ?_)
  · skip
    refine j_iadd dX3_stateNow_35 ?_
    refine j_iret dX3_stateNow_36 rfl rfl (Nat.le_refl _) (Nat.le_refl _) ?_
    refine jr_i ?_
    subst hv23
    rw [show (4 : Int32) = nI 4 from rfl, show (2 : Int32) = nI 2 from rfl, pk_mul, nI_add, pk_mul, nI_add, pk_mul, nI_add]
    rfl
  · skip
    refine j_aload_n dX3_stateNow_23 rfl ?_
    refine j_get 24 dX3_stateNow_24 (by first | rfl | assumption) in_X3 rfl (by decide) q1123 rfl ?_
    refine j_if_eq (tgt := 34) dX3_stateNow_27 (by decide) (fun c27 => ?_) (fun c27 => ?_)
    · skip
      have c27 : a.2.2.2 = 0 := (nI_eq (by omega) (by decide)).mp (show nI a.2.2.2 = nI 0 from c27)
      have hj : (0 : Int32) = nI a.2.2.2 := by rw [c27]; rfl
      refine j_iconst (v := 0) dX3_stateNow_34 (by decide) ?_
      exact kj23 _ hj
    · skip
      have hj : (1 : Int32) = nI a.2.2.2 := by
        have : ¬ a.2.2.2 = 0 := fun q => c27 (by rw [q]; rfl)
        rw [show a.2.2.2 = 1 by omega]; rfl
      refine j_iconst (v := 1) dX3_stateNow_30 (by decide) ?_
      refine j_goto (tgt := 35) dX3_stateNow_31 (by decide) ?_
      exact kj23 _ hj
set_option maxHeartbeats 4000000 in
theorem m_setState {l : Launch} {D : va_G} {dT : Nat → ClassId} {H0 : Heap} {r : Nat → Nat} {nx : Nat} {g : j_H} {kI : Int32} {bs fg m nk w x s t : Nat} {F : Nat → Nat} {tk : Int64} {V : Nat → Nat → Int32} (hm : 0 < m) (hm2 : m ≤ 100) (n : Nat) (hn : n < 2 ^ 31) : MC (gG l D dT H0) yX3_setState cX3_setState 2 none 0 0 0 [.ref (r 100), .int (nI n)] r (mdS r dT g kI bs fg m nk w x s t F tk V) nx (jq_v r (mdS r dT g kI bs fg m nk (decM m n).1 (decM m n).2.1 (decM m n).2.2.1 (decM m n).2.2.2 F tk V) nx) := by
  refine MC.ofJ [some (.ref (r 100)), some (.int (nI n))] rfl (Nat.le_of_ble_eq_true rfl) (by decide) ?_
  refine j_aload_n dX3_setState_0 rfl ?_
  refine j_join (tgt := 13) (fun z => z = nI (n % 2)) (fun v1 hv1 => ?_) (fun kj1 => ?_)
  · skip
    subst hv1
    refine j_put 24 dX3_setState_13 (by first | rfl | assumption) in_X3 tyX3_ok nmX3 rfl (by decide) q1123 rfl (by rcases Nat.mod_two_eq_zero_or_one n with q | q <;> rw [q] <;> rfl) (by rcases Nat.mod_two_eq_zero_or_one n with q | q <;> rw [q] <;> rfl) (by first | decide | simp) ?_
    refine j_mdA (w' := w) (x' := x) (s' := s) (t' := (n % 2)) rfl ?_
    refine j_aload_n dX3_setState_16 rfl ?_
    refine j_aload_n dX3_setState_17 rfl ?_
    refine j_get 3 dX3_setState_18 (by first | rfl | assumption) in_X3 rfl (by decide) q1102 rfl ?_
    refine j_if_ne (tgt := 28) dX3_setState_21 (by decide) (fun c21 => ?_) (fun c21 => absurd c21 (nI_ne hm (by omega)))
    refine j_iload_n dX3_setState_28 rfl ?_
    refine j_iconst (v := 2) dX3_setState_29 (by decide) ?_
    refine j_idiv dX3_setState_30 (by decide) ?_
    refine j_eqi (nI_d2 hn) ?_
    refine j_aload_n dX3_setState_31 rfl ?_
    refine j_get 3 dX3_setState_32 (by first | rfl | assumption) in_X3 rfl (by decide) q1102 rfl ?_
    refine j_irem dX3_setState_35 (nI_ne hm (by omega)) ?_
    refine j_eqi (show _ = nI (n / 2 % m) from pk_rem (by omega) hm (by omega)) ?_
    refine j_put 23 dX3_setState_36 (by first | rfl | assumption) in_X3 tyX3_ok nmX3 rfl (by decide) q1122 rfl rfl rfl (by first | decide | simp) ?_
    refine j_mdA (w' := w) (x' := (n / 2 % m)) (s' := s) (t' := (n % 2)) rfl ?_
    refine j_aload_n dX3_setState_39 rfl ?_
    refine j_aload_n dX3_setState_40 rfl ?_
    refine j_get 3 dX3_setState_41 (by first | rfl | assumption) in_X3 rfl (by decide) q1102 rfl ?_
    refine j_if_ne (tgt := 51) dX3_setState_44 (by decide) (fun c44 => ?_) (fun c44 => absurd c44 (nI_ne hm (by omega)))
    refine j_iload_n dX3_setState_51 rfl ?_
    refine j_iconst (v := 2) dX3_setState_52 (by decide) ?_
    refine j_idiv dX3_setState_53 (by decide) ?_
    refine j_eqi (nI_d2 hn) ?_
    refine j_aload_n dX3_setState_54 rfl ?_
    refine j_get 3 dX3_setState_55 (by first | rfl | assumption) in_X3 rfl (by decide) q1102 rfl ?_
    refine j_idiv dX3_setState_58 (nI_ne hm (by omega)) ?_
    refine j_eqi (show _ = nI (n / 2 / m) from pk_div (by omega) hm (by omega)) ?_
    refine j_iconst (v := 4) dX3_setState_59 (by decide) ?_
    refine j_irem dX3_setState_60 (by decide) ?_
    refine j_eqi (show _ = nI (n / 2 / m % 4) from pk_rem (d := 4) (Nat.lt_of_le_of_lt (Nat.div_le_self _ _) (by omega)) (by decide) (by decide)) ?_
    refine j_put 22 dX3_setState_61 (by first | rfl | assumption) in_X3 tyX3_ok nmX3 rfl (by decide) q1121 rfl rfl rfl (by first | decide | simp) ?_
    refine j_mdA (w' := (n / 2 / m % 4)) (x' := (n / 2 % m)) (s' := s) (t' := (n % 2)) rfl ?_
    refine j_aload_n dX3_setState_64 rfl ?_
    refine j_aload_n dX3_setState_65 rfl ?_
    refine j_get 3 dX3_setState_66 (by first | rfl | assumption) in_X3 rfl (by decide) q1102 rfl ?_
    refine j_if_ne (tgt := 76) dX3_setState_69 (by decide) (fun c69 => ?_) (fun c69 => absurd c69 (nI_ne hm (by omega)))
    refine j_iload_n dX3_setState_76 rfl ?_
    refine j_bipush (v := 8) dX3_setState_77 (by decide) ?_
    refine j_idiv dX3_setState_79 (by decide) ?_
    refine j_eqi (show _ = nI (n / 8) from pk_div (d := 8) hn (by decide) (by decide)) ?_
    refine j_aload_n dX3_setState_80 rfl ?_
    refine j_get 3 dX3_setState_81 (by first | rfl | assumption) in_X3 rfl (by decide) q1102 rfl ?_
    refine j_idiv dX3_setState_84 (nI_ne hm (by omega)) ?_
    refine j_eqi (show _ = nI (n / 8 / m) from pk_div (by omega) hm (by omega)) ?_
    refine j_put 21 dX3_setState_85 (by first | rfl | assumption) in_X3 tyX3_ok nmX3 rfl (by decide) q1120 rfl rfl rfl (by first | decide | simp) ?_
    refine j_mdA (w' := (n / 2 / m % 4)) (x' := (n / 2 % m)) (s' := (n / 8 / m)) (t' := (n % 2)) rfl ?_
    refine j_vret dX3_setState_88 rfl (Nat.le_refl _) (Nat.le_refl _) ?_
    exact jr_v rfl
  · skip
    refine j_iload_n dX3_setState_1 rfl ?_
    refine j_iconst (v := 2) dX3_setState_2 (by decide) ?_
    refine j_irem dX3_setState_3 (by decide) ?_
    refine j_eqi (nI_r2 hn) ?_
    refine j_iconst (v := 1) dX3_setState_4 (by decide) ?_
    refine j_icmp_ne (tgt := 12) dX3_setState_5 (by decide) (fun c5 => ?_) (fun c5 => ?_)
    · skip
      have hj : (0 : Int32) = nI (n % 2) := by
        have : ¬ n % 2 = 1 := fun q => c5 (by rw [q]; rfl)
        rw [show n % 2 = 0 by omega]; rfl
      refine j_iconst (v := 0) dX3_setState_12 (by decide) ?_
      exact kj1 _ hj
    · skip
      have hj : (1 : Int32) = nI (n % 2) := c5.symm
      refine j_iconst (v := 1) dX3_setState_8 (by decide) ?_
      refine j_goto (tgt := 13) dX3_setState_9 (by decide) ?_
      exact kj1 _ hj
