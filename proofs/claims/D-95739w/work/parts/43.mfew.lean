set_option maxRecDepth 100000
def isMs (k : Nat) : Prop := 109 ≤ k ∧ k ≤ 115
/-- an int answer of the model's; its arrays for work may have changed -/
def jq_m (v : Int32) (r : Nat → Nat) (dT : Nat → ClassId) (g : j_H) (kI : Int32) (bs fg m nk : Nat) (a : A4) (F : Nat → Nat) (tk : Int64) (V : Nat → Nat → Int32) (nx : Nat) : j_Q := fun o r' h' nx' => o = .returned (some (.int v)) ∧ r' = r ∧ nx' = nx ∧ ∃ V' : Nat → Nat → Int32, h' = (mdS r dT g kI bs fg m nk a.1 a.2.1 a.2.2.1 a.2.2.2 F tk V') ∧ ∀ k, ¬ isMs k → V' k = V k
theorem jq_m.isR {v : Int32} {r : Nat → Nat} {dT : Nat → ClassId} {g : j_H} {kI : Int32} {bs fg m nk : Nat} {a : A4} {F : Nat → Nat} {tk : Int64} {V : Nat → Nat → Int32} {nx : Nat} : j_isR (jq_m v r dT g kI bs fg m nk a F tk V nx) := fun _ _ _ _ hq => ⟨_, hq.1⟩
theorem jm_i {v u : Int32} {r : Nat → Nat} {dT : Nat → ClassId} {g : j_H} {kI : Int32} {bs fg m nk : Nat} {a : A4} {F : Nat → Nat} {tk : Int64} {V V' : Nat → Nat → Int32} {nx : Nat} (e : u = v) (h : ∀ k, ¬ isMs k → V' k = V k) : jq_m v r dT g kI bs fg m nk a F tk V nx (.returned (some (.int u))) r (mdS r dT g kI bs fg m nk a.1 a.2.1 a.2.2.1 a.2.2.2 F tk V') nx := ⟨by rw [e], rfl, rfl, V', rfl, h⟩
theorem vo_ms {V : Nat → Nat → Int32} {l : List (Nat × (Nat → Int32))} (h : ∀ q, q ∈ l → isMs q.1) : ∀ k, ¬ isMs k → vo V l k = V k := fun k hk => vo_ne (fun q hq e => hk (e ▸ h q hq))
theorem vo5_ms {V : Nat → Nat → Int32} {a b c d e : Nat → Int32} : ∀ k, ¬ isMs k → vo V [(109, a), (110, b), (111, c), (113, d), (114, e)] k = V k := vo_ms (by intro q hq; simp at hq; rcases hq with rfl | rfl | rfl | rfl | rfl <;> exact ⟨Nat.le_of_ble_eq_true rfl, Nat.le_of_ble_eq_true rfl⟩)
theorem mRep.few {m : Nat} {L : List BE} {fr ln by' fw fs : Nat → Int32} (h : mRep m L L.length fr ln by' fw fs) {v : Nat} (hv : v < m) : fw v = bN L v := by
  rw [h.2.2.2.1 v hv, List.take_length]; rfl
set_option maxHeartbeats 4000000 in
theorem m_fewest1 {l : Launch} {D : va_G} {dT : Nat → ClassId} {H0 : Heap} {r : Nat → Nat} {nx : Nat} {g : j_H} {kd bs fg m nk : Nat} {a : A4} {F : Nat → Nat} {tk : Int64} {V : Nat → Nat → Int32} (hD : okD kd bs m) (ha : okA m a) {ks : Nat → KY} (hks : mdKs (V 101) bs m nk ks) (hn8 : nk ≤ 8) (v : Nat) (hv : v < m) : MC (gG l D dT H0) yX3_fewest cX3_fewest 2 (some .int) 6 0 0 [.ref (r 100), .int (nI v)] r (mdS r dT g (nI kd) bs fg m nk a.1 a.2.1 a.2.2.1 a.2.2.2 F tk V) nx (jq_m (bN (bAll (fun k a => stk kd bs m (ks k) a) nk (8 * m * m) a) v) r dT g (nI kd) bs fg m nk a F tk V nx) := by
  have hm := hD.pos
  have hm2 := hD.le
  have hm3 : 2 ≤ m := by have := hD.2.1; have := hD.2.2.2.1; omega
  have hkd := hD.1
  refine MC.ofJ [some (.ref (r 100)), some (.int (nI v))] rfl (Nat.le_of_ble_eq_true rfl) (by decide) ?_
  refine j_aload_n dX3_fewest_0 rfl ?_
  refine j_iload_n dX3_fewest_1 rfl ?_
  refine j_callVi (m_isNumber _) dX3_fewest_2 pmX3_isNumber q1336 q1338 qs41 (by first | rfl | assumption) rfl rfl rfl ⟨Nat.le_of_ble_eq_true rfl, Nat.le_of_ble_eq_true rfl⟩ ⟨Nat.le_of_ble_eq_true rfl, Nat.le_of_ble_eq_true rfl⟩ rfl (Nat.le_of_ble_eq_true rfl) ?_
  refine j_ifb_ne (tgt := 11) dX3_fewest_5 (by decide) (fun c5 => ?_) (fun c5 => absurd (nI_inr hv (by omega)) c5)
  refine j_aload_n dX3_fewest_11 rfl ?_
  refine j_aload_n dX3_fewest_12 rfl ?_
  refine j_get 4 dX3_fewest_13 (by first | rfl | assumption) in_X3 rfl (by decide) q1103 rfl ?_
  refine j_callV (m_layFewest hD ha hks.w (by omega)) q_lay.isR dX3_fewest_16 pmX3_layFewest q1340 q1342 qs42 (by first | rfl | assumption) rfl rfl rfl ⟨Nat.le_of_ble_eq_true rfl, Nat.le_of_ble_eq_true rfl⟩ ⟨Nat.le_of_ble_eq_true rfl, Nat.le_of_ble_eq_true rfl⟩ rfl (Nat.le_of_ble_eq_true rfl) ?_
  rintro v9 r h9 nx ⟨e9, rfl, rfl, fr, ln, by', fw, fs, rfl, hR, hO⟩
  cases e9
  generalize hLF : (bAll (fun k a => stk kd bs m (ks k) a) nk (8 * m * m) a) = LF at hR hO ⊢
  refine j_aload_n dX3_fewest_19 rfl ?_
  refine j_get 38 dX3_fewest_20 (by first | rfl | assumption) in_X3 rfl (by decide) q1137 rfl ?_
  refine j_iload_n dX3_fewest_23 rfl ?_
  refine j_iald 0 v dX3_fewest_24 (by first | rfl | assumption) rfl rfl (by show v < 100; omega) (by decide) ?_
  refine j_eqi (hR.few hv) ?_
  refine j_iret dX3_fewest_25 rfl rfl (Nat.le_refl _) (Nat.le_refl _) ?_
  exact jm_i rfl vo5_ms
set_option maxHeartbeats 4000000 in
theorem m_fewesto {l : Launch} {D : va_G} {dT : Nat → ClassId} {H0 : Heap} {r : Nat → Nat} {nx : Nat} {g : j_H} {kI : Int32} {bs fg m nk w x s t : Nat} {F : Nat → Nat} {tk : Int64} {V : Nat → Nat → Int32} (v : Int32) (hv : ¬ (0 ≤ v ∧ v ≤ nI m - 1)) : MC (gG l D dT H0) yX3_fewest cX3_fewest 2 (some .int) 6 0 0 [.ref (r 100), .int v] r (mdS r dT g kI bs fg m nk w x s t F tk V) nx (jq_i (-1000000002) r (mdS r dT g kI bs fg m nk w x s t F tk V) nx) := by
  refine MC.ofJ [some (.ref (r 100)), some (.int v)] rfl (Nat.le_of_ble_eq_true rfl) (by decide) ?_
  refine j_aload_n dX3_fewest_0 rfl ?_
  refine j_iload_n dX3_fewest_1 rfl ?_
  refine j_callVi (m_isNumber _) dX3_fewest_2 pmX3_isNumber q1336 q1338 qs41 (by first | rfl | assumption) rfl rfl rfl ⟨Nat.le_of_ble_eq_true rfl, Nat.le_of_ble_eq_true rfl⟩ ⟨Nat.le_of_ble_eq_true rfl, Nat.le_of_ble_eq_true rfl⟩ rfl (Nat.le_of_ble_eq_true rfl) ?_
  refine j_ifb_ne (tgt := 11) dX3_fewest_5 (by decide) (fun c5 => absurd c5 hv) (fun c5 => ?_)
  refine j_ldc dX3_fewest_8 q1231 ?_
  refine j_iret dX3_fewest_10 rfl rfl (Nat.le_refl _) (Nat.le_refl _) ?_
  exact ⟨rfl, rfl, rfl, rfl⟩
set_option maxHeartbeats 4000000 in
theorem m_wayo {l : Launch} {D : va_G} {dT : Nat → ClassId} {H0 : Heap} {r : Nat → Nat} {nx : Nat} {g : j_H} {kI : Int32} {bs fg m nk w x s t : Nat} {F : Nat → Nat} {tk : Int64} {V : Nat → Nat → Int32} (v u : Int32) (hv : ¬ (0 ≤ v ∧ v ≤ nI m - 1)) : MC (gG l D dT H0) yX3_way cX3_way 4 (some .int) 6 0 0 [.ref (r 100), .int v, .int u] r (mdS r dT g kI bs fg m nk w x s t F tk V) nx (jq_i (-1000000002) r (mdS r dT g kI bs fg m nk w x s t F tk V) nx) := by
  refine MC.ofJ [some (.ref (r 100)), some (.int v), some (.int u), none] rfl (Nat.le_of_ble_eq_true rfl) (by decide) ?_
  refine j_aload_n dX3_way_0 rfl ?_
  refine j_iload_n dX3_way_1 rfl ?_
  refine j_callVi (m_isNumber _) dX3_way_2 pmX3_isNumber q1336 q1338 qs41 (by first | rfl | assumption) rfl rfl rfl ⟨Nat.le_of_ble_eq_true rfl, Nat.le_of_ble_eq_true rfl⟩ ⟨Nat.le_of_ble_eq_true rfl, Nat.le_of_ble_eq_true rfl⟩ rfl (Nat.le_of_ble_eq_true rfl) ?_
  refine j_ifb_ne (tgt := 11) dX3_way_5 (by decide) (fun c5 => absurd c5 hv) (fun c5 => ?_)
  refine j_ldc dX3_way_8 q1231 ?_
  refine j_iret dX3_way_10 rfl rfl (Nat.le_refl _) (Nat.le_refl _) ?_
  exact ⟨rfl, rfl, rfl, rfl⟩
set_option maxHeartbeats 4000000 in
theorem m_leasto {l : Launch} {D : va_G} {dT : Nat → ClassId} {H0 : Heap} {r : Nat → Nat} {nx : Nat} {g : j_H} {kI : Int32} {bs fg m nk w x s t : Nat} {F : Nat → Nat} {tk : Int64} {V : Nat → Nat → Int32} (v : Int32) (hv : ¬ (0 ≤ v ∧ v ≤ nI m - 1)) : MC (gG l D dT H0) yX3_least cX3_least 2 (some .int) 6 0 0 [.ref (r 100), .int v] r (mdS r dT g kI bs fg m nk w x s t F tk V) nx (jq_i (-1000000002) r (mdS r dT g kI bs fg m nk w x s t F tk V) nx) := by
  refine MC.ofJ [some (.ref (r 100)), some (.int v)] rfl (Nat.le_of_ble_eq_true rfl) (by decide) ?_
  refine j_aload_n dX3_least_0 rfl ?_
  refine j_iload_n dX3_least_1 rfl ?_
  refine j_callVi (m_isNumber _) dX3_least_2 pmX3_isNumber q1336 q1338 qs41 (by first | rfl | assumption) rfl rfl rfl ⟨Nat.le_of_ble_eq_true rfl, Nat.le_of_ble_eq_true rfl⟩ ⟨Nat.le_of_ble_eq_true rfl, Nat.le_of_ble_eq_true rfl⟩ rfl (Nat.le_of_ble_eq_true rfl) ?_
  refine j_ifb_eq (tgt := 16) dX3_least_5 (by decide) (fun c5 => ?_) (fun c5 => absurd c5 hv)
  refine j_ldc dX3_least_16 q1231 ?_
  refine j_iret dX3_least_18 rfl rfl (Nat.le_refl _) (Nat.le_refl _) ?_
  exact ⟨rfl, rfl, rfl, rfl⟩
theorem bUn_few {m K : Nat} {L : List BE} (hm : m ≤ 100) (hO : bOK m K L) {v : Nat} : bN L v = -1 ↔ bUn L v = true := by
  unfold bN bUn
  cases h : bFst L v with
  | none => simp
  | some e =>
    have h9 := mFew_ne hm hO (v := v) (n := L.length) (e := e) (by rw [List.take_length]; exact h)
    rw [List.take_length] at h9
    unfold mFew at h9
    rw [h] at h9
    simp [h9]
set_option maxHeartbeats 4000000 in
theorem m_never1 {l : Launch} {D : va_G} {dT : Nat → ClassId} {H0 : Heap} {r : Nat → Nat} {nx : Nat} {g : j_H} {kd bs fg m nk : Nat} {a : A4} {F : Nat → Nat} {tk : Int64} {V : Nat → Nat → Int32} (hD : okD kd bs m) (ha : okA m a) {ks : Nat → KY} (hks : mdKs (V 101) bs m nk ks) (hn8 : nk ≤ 8) (i : Int32) : MC (gG l D dT H0) yX3_never cX3_never 4 (some .int) 6 0 0 [.ref (r 100), .int i] r (mdS r dT g (nI kd) bs fg m nk a.1 a.2.1 a.2.2.1 a.2.2.2 F tk V) nx (jq_m (nvr (bUn (bAll (fun k a => stk kd bs m (ks k) a) nk (8 * m * m) a)) i m 0 0) r dT g (nI kd) bs fg m nk a F tk V nx) := by
  have hm := hD.pos
  have hm2 := hD.le
  have hm3 : 2 ≤ m := by have := hD.2.1; have := hD.2.2.2.1; omega
  have hkd := hD.1
  refine MC.ofJ [some (.ref (r 100)), some (.int i), none, none] rfl (Nat.le_of_ble_eq_true rfl) (by decide) ?_
  refine j_aload_n dX3_never_0 rfl ?_
  refine j_aload_n dX3_never_1 rfl ?_
  refine j_get 4 dX3_never_2 (by first | rfl | assumption) in_X3 rfl (by decide) q1103 rfl ?_
  refine j_callV (m_layFewest hD ha hks.w (by omega)) q_lay.isR dX3_never_5 pmX3_layFewest q1340 q1342 qs42 (by first | rfl | assumption) rfl rfl rfl ⟨Nat.le_of_ble_eq_true rfl, Nat.le_of_ble_eq_true rfl⟩ ⟨Nat.le_of_ble_eq_true rfl, Nat.le_of_ble_eq_true rfl⟩ rfl (Nat.le_of_ble_eq_true rfl) ?_
  rintro v9 r h9 nx ⟨e9, rfl, rfl, fr, ln, by', fw, fs, rfl, hR, hO⟩
  cases e9
  generalize hLF : (bAll (fun k a => stk kd bs m (ks k) a) nk (8 * m * m) a) = LF at hR hO ⊢
  refine j_iconst (v := 0) dX3_never_8 (by decide) ?_
  refine j_istore_n dX3_never_9 (by decide) rfl ?_
  refine j_iconst (v := 0) dX3_never_10 (by decide) ?_
  refine j_istore_n dX3_never_11 (by decide) rfl ?_
  refine j_less (L' := [some (.ref (r 100)), some (.int i), some (.int (nI 0)), some (.int (nI 0))]) ⟨Or.inr rfl, Or.inr rfl, Or.inr rfl, Or.inr rfl, trivial⟩ ?_
  refine j_lp2 (fun (v n : Nat) => (mdS r dT g (nI kd) bs fg m nk a.1 a.2.1 a.2.2.1 a.2.2.2 F tk (vo V [(109, fr), (110, ln), (111, by'), (113, fw), (114, fs)]))) (fun v n => [some (.ref (r 100)), some (.int i), some (.int (nI n)), some (.int (nI v))]) (fun v n => v ≤ m ∧ n ≤ v ∧ nvr (bUn LF) i (m - v) v n = nvr (bUn LF) i m 0 0) (fun v _ => m - v) ?_ 0 0 ⟨Nat.zero_le _, Nat.le_refl _, rfl⟩
  intro v n ⟨hv1, hn1, hnv⟩ ih
  refine j_iload_n dX3_never_12 rfl ?_
  refine j_aload_n dX3_never_13 rfl ?_
  refine j_get 3 dX3_never_14 (by first | rfl | assumption) in_X3 rfl (by decide) q1102 rfl ?_
  refine j_icmp_ge (tgt := 46) dX3_never_17 (by decide) (fun c17 => ?_) (fun c17 => ?_)
  · skip
    have hvm : v = m := by
      have := (nI_leI (by omega) (by omega)).mp c17
      omega
    subst hvm
    rw [Nat.sub_self, nvr] at hnv
    refine j_iload_n dX3_never_46 rfl ?_
    refine j_iconst (v := (-1)) dX3_never_47 (by decide) ?_
    refine j_icmp_ne (tgt := 55) dX3_never_48 (by decide) (fun c48 => ?_) (fun c48 => ?_)
    · skip
      refine j_iconst (v := (-1)) dX3_never_55 (by decide) ?_
      refine j_iret dX3_never_56 rfl rfl (Nat.le_refl _) (Nat.le_refl _) ?_
      refine jm_i ?_ vo5_ms
      rw [← hnv]
      first | exact (if_pos c48).symm | exact (if_neg c48).symm
    · skip
      refine j_iload_n dX3_never_51 rfl ?_
      refine j_goto (tgt := 56) dX3_never_52 (by decide) ?_
      refine j_iret dX3_never_56 rfl rfl (Nat.le_refl _) (Nat.le_refl _) ?_
      refine jm_i ?_ vo5_ms
      rw [← hnv]
      first | exact (if_pos c48).symm | exact (if_neg c48).symm
  · skip
    have hvm : v < m := Nat.lt_of_not_le (fun q => c17 (nI_le q (by omega)))
    rw [show m - v = (m - (v + 1)) + 1 by omega, nvr] at hnv
    refine j_aload_n dX3_never_20 rfl ?_
    refine j_get 38 dX3_never_21 (by first | rfl | assumption) in_X3 rfl (by decide) q1137 rfl ?_
    refine j_iload_n dX3_never_24 rfl ?_
    refine j_iald 0 v dX3_never_25 (by first | rfl | assumption) rfl rfl (by show v < 100; omega) (by decide) ?_
    refine j_eqi (hR.few hvm) ?_
    refine j_iconst (v := (-1)) dX3_never_26 (by decide) ?_
    refine j_icmp_ne (tgt := 40) dX3_never_27 (by decide) (fun c27 => ?_) (fun c27 => ?_)
    · skip
      have hun : ¬ bUn LF v = true := fun q => c27 ((bUn_few hm2 hO).mpr q)
      rw [if_neg hun] at hnv
      refine j_iinc dX3_never_40 rfl (by decide) rfl ?_
      refine j_goto (tgt := 12) dX3_never_43 (by decide) ?_
      exact j_re (by rw [nI_inc]; rfl) rfl rfl (ih (v + 1) n ⟨by omega, by omega, hnv⟩ (by omega))
    · skip
      have hun : bUn LF v = true := (bUn_few hm2 hO).mp c27
      rw [if_pos hun] at hnv
      refine j_iload_n dX3_never_30 rfl ?_
      refine j_iload_n dX3_never_31 rfl ?_
      refine j_icmp_ne (tgt := 37) dX3_never_32 (by decide) (fun c32 => ?_) (fun c32 => ?_)
      · skip
        rw [if_neg c32] at hnv
        refine j_iinc dX3_never_37 rfl (by decide) rfl ?_
        refine j_iinc dX3_never_40 rfl (by decide) rfl ?_
        refine j_goto (tgt := 12) dX3_never_43 (by decide) ?_
        exact j_re (by rw [nI_inc, nI_inc]; rfl) rfl rfl (ih (v + 1) (n + 1) ⟨by omega, by omega, hnv⟩ (by omega))
      · skip
        rw [if_pos c32] at hnv
        refine j_iload_n dX3_never_35 rfl ?_
        refine j_iret dX3_never_36 rfl rfl (Nat.le_refl _) (Nat.le_refl _) ?_
        exact jm_i hnv vo5_ms
