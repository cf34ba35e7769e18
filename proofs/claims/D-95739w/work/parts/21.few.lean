set_option maxRecDepth 100000
/-- fewest strokes to v (-1: it never comes) -/
def bN (L : List BE) (v : Nat) : Int32 := match bFst L v with
  | none => -1
  | some e => nI e.2.1
def isSc (k : Nat) : Prop := (6 ≤ k ∧ k ≤ 14) ∨ (22 ≤ k ∧ k ≤ 31)
/-- an int answer; of FewKeys' arrays those that are only for work may have changed -/
def jq_s (v : Int32) (r : Nat → Nat) (dT : Nat → ClassId) (g : j_H) (F : Nat → Nat) (V : Nat → Nat → Int32) (nx : Nat) : j_Q := fun o r' h' nx' => o = .returned (some (.int v)) ∧ r' = r ∧ nx' = nx ∧ ∃ V' : Nat → Nat → Int32, h' = fkS r dT g F V' ∧ ∀ k, ¬ isSc k → V' k = V k
theorem jq_s.isR {v : Int32} {r : Nat → Nat} {dT : Nat → ClassId} {g : j_H} {F : Nat → Nat} {V : Nat → Nat → Int32} {nx : Nat} : j_isR (jq_s v r dT g F V nx) := fun _ _ _ _ hq => ⟨_, hq.1⟩
theorem vo_ne {V : Nat → Nat → Int32} {k : Nat} : ∀ {l : List (Nat × (Nat → Int32))}, (∀ q, q ∈ l → q.1 ≠ k) → vo V l k = V k
  | [], _ => rfl
  | (i, f) :: l, h => by
    rw [vo_hd, va_up_ne _ _ (fun q => h (i, f) List.mem_cons_self q.symm)]
    exact vo_ne (fun q hq => h q (List.mem_cons_of_mem _ hq))
theorem vo_sc {V : Nat → Nat → Int32} {l : List (Nat × (Nat → Int32))} (h : ∀ q, q ∈ l → isSc q.1) : ∀ k, ¬ isSc k → vo V l k = V k := fun k hk => vo_ne (fun q hq e => hk (e ▸ h q hq))
theorem vo5_sc {V : Nat → Nat → Int32} {a b c d e : Nat → Int32} : ∀ k, ¬ isSc k → vo V [(6, a), (7, b), (8, c), (9, d), (10, e)] k = V k := vo_sc (by intro q hq; simp at hq; rcases hq with rfl | rfl | rfl | rfl | rfl <;> exact Or.inl ⟨Nat.le_of_ble_eq_true rfl, Nat.le_of_ble_eq_true rfl⟩)
theorem js_i {v w : Int32} {r : Nat → Nat} {dT : Nat → ClassId} {g : j_H} {F : Nat → Nat} {V V' : Nat → Nat → Int32} {nx : Nat} (e : w = v) (h : ∀ k, ¬ isSc k → V' k = V k) : jq_s v r dT g F V nx (.returned (some (.int w))) r (fkS r dT g F V') nx := ⟨by rw [e], rfl, rfl, V', rfl, h⟩
theorem js_0 {v w : Int32} {r : Nat → Nat} {dT : Nat → ClassId} {g : j_H} {F : Nat → Nat} {V : Nat → Nat → Int32} {nx : Nat} (e : w = v) : jq_s v r dT g F V nx (.returned (some (.int w))) r (fkS r dT g F V) nx := js_i e (fun _ _ => rfl)
theorem bFst_mem {L : List BE} {v : Nat} {e : BE} (h : bFst L v = some e) : e ∈ L ∧ e.1.2.2.1 = v := ⟨List.mem_of_find?_eq_some h, by have := List.find?_some h; simpa using this⟩
theorem bOK.dist {m K : Nat} {L : List BE} (h : bOK m K L) {e : BE} (he : e ∈ L) : e.2.1 < 8 * m * m := by
  obtain ⟨j, hj⟩ := List.getElem?_of_mem he
  have h1 := h.2.2.1 j e hj
  have h2 := (List.getElem?_eq_some_iff.mp hj).1
  have := h.len
  omega
theorem bN_eq {L : List BE} {v : Nat} {e : BE} (h : bFst L v = some e) : bN L v = nI e.2.1 := by unfold bN; rw [h]
theorem bN_none {L : List BE} {v : Nat} (h : bFst L v = none) : bN L v = -1 := by unfold bN; rw [h]
theorem nI_m1 {a : Nat} (h : a < 2 ^ 31) : ¬ nI a = -1 := by
  intro q
  have := congrArg Int32.toInt q
  rw [nI_toInt h, show (-1 : Int32).toInt = -1 by decide] at this
  omega

set_option maxHeartbeats 4000000 in
theorem f_fewestTo {l : Launch} {D : va_G} {dT : Nat → ClassId} {H0 : Heap} {r : Nat → Nat} {nx : Nat} {g : j_H} {F : Nat → Nat} {V : Nat → Nat → Int32} {m K : Nat} {LF : List BE} (hR : bRep m LF (V 6) (V 7) (V 8) (V 9) (V 10)) (hO : bOK m K LF) (hm2 : m ≤ 100) (v : Nat) (hv : v < m) : MC (gG l D dT H0) yX0_fewestTo cX0_fewestTo 2 (some .int) 0 0 0 [.ref (r 0), .int (nI v)] r (fkS r dT g F V) nx (jq_i (bN LF v) r (fkS r dT g F V) nx) := by
  have hmm := mm_le hm2
  have hfs := hR.2.2.2 v hv
  unfold bFstC at hfs
  refine MC.ofJ [some (.ref (r 0)), some (.int (nI v))] rfl (Nat.le_of_ble_eq_true rfl) (by decide) ?_
  refine j_aload_n dX0_fewestTo_0 rfl ?_
  refine j_get 12 dX0_fewestTo_1 (by first | rfl | assumption) in_X0 rfl (by decide) q165 rfl ?_
  refine j_iload_n dX0_fewestTo_4 rfl ?_
  refine j_iald 0 _ dX0_fewestTo_5 (by first | rfl | assumption) rfl rfl (by first | assumption | omega) (by decide) ?_
  refine j_iconst (v := (-1)) dX0_fewestTo_6 (by decide) ?_
  refine j_icmp_ne (tgt := 14) dX0_fewestTo_7 (by decide) (fun c7 => ?_) (fun c7 => ?_)
  · skip
    obtain ⟨e, he⟩ : ∃ e, bFst LF v = some e := by
      cases hq : bFst LF v with
      | none => rw [hq] at hfs; exact absurd hfs c7
      | some e => exact ⟨e, rfl⟩
    rw [he] at hfs
    have hel := encA_lt (hO.2.1 e (bFst_mem he).1)
    obtain ⟨j, hj⟩ := List.getElem?_of_mem (bFst_mem he).1
    refine j_aload_n dX0_fewestTo_14 rfl ?_
    refine j_get 8 dX0_fewestTo_15 (by first | rfl | assumption) in_X0 rfl (by decide) q161 rfl ?_
    refine j_aload_n dX0_fewestTo_18 rfl ?_
    refine j_get 12 dX0_fewestTo_19 (by first | rfl | assumption) in_X0 rfl (by decide) q165 rfl ?_
    refine j_iload_n dX0_fewestTo_22 rfl ?_
    refine j_iald 0 _ dX0_fewestTo_23 (by first | rfl | assumption) rfl rfl (by first | assumption | omega) (by decide) ?_
    refine j_eqi hfs ?_
    refine j_iald 0 (encA m e.1) dX0_fewestTo_24 (by first | rfl | assumption) rfl rfl (by omega) (by decide) ?_
    refine j_iret dX0_fewestTo_25 rfl rfl (Nat.le_refl _) (Nat.le_refl _) ?_
    first | exact jr_i (bN_none he).symm | exact jr_i ((hR.1 j e hj).2.trans (bN_eq he).symm)
  · skip
    have he : bFst LF v = none := by
      cases hq : bFst LF v with
      | none => rfl
      | some e => rw [hq] at hfs; exact absurd (hfs.symm.trans c7) (bFstC_ne hm2 hO hq)
    refine j_iconst (v := (-1)) dX0_fewestTo_10 (by decide) ?_
    refine j_goto (tgt := 25) dX0_fewestTo_11 (by decide) ?_
    refine j_iret dX0_fewestTo_25 rfl rfl (Nat.le_refl _) (Nat.le_refl _) ?_
    first | exact jr_i (bN_none he).symm | exact jr_i ((hR.1 j e hj).2.trans (bN_eq he).symm)
set_option maxHeartbeats 4000000 in
theorem f_fewest1 {l : Launch} {D : va_G} {dT : Nat → ClassId} {H0 : Heap} {r : Nat → Nat} {nx : Nat} {g : j_H} {F : Nat → Nat} {V : Nat → Nat → Int32} {nk : Nat} (h60 : g 60 = some (rcell (.ref (r 61)) (r 62) nk)) {kd bs fg m : Nat} {ks : Nat → KY} (hK : fkK r dT g kd bs fg m nk ks) (v : Nat) (hv : v < m) (hs : F 0 < 8 * m * m) : MC (gG l D dT H0) yX0_fewest cX0_fewest 2 (some .int) 7 0 0 [.ref (r 0), .int (nI v)] r (fkS r dT g F V) nx (jq_s (bN (bAll (fun k a => stk kd bs m (ks k) a) nk (8 * m * m) (decA m (F 0))) v) r dT g F V nx) := by
  obtain ⟨h61, hD, hkn, ka, h62, hks⟩ := id hK
  have hm := hD.pos
  have hm2 := hD.le
  have hmm := mm_le hm2
  refine MC.ofJ [some (.ref (r 0)), some (.int (nI v))] rfl (Nat.le_of_ble_eq_true rfl) (by decide) ?_
  refine j_aload_n dX0_fewest_0 rfl ?_
  refine j_iload_n dX0_fewest_1 rfl ?_
  refine j_callVi (f_isNumber1 h60 h61 hm hm2 _) dX0_fewest_2 pmX0_isNumber q920 q922 qs17 (by first | rfl | assumption) rfl rfl rfl ⟨Nat.le_of_ble_eq_true rfl, Nat.le_of_ble_eq_true rfl⟩ ⟨Nat.le_of_ble_eq_true rfl, Nat.le_of_ble_eq_true rfl⟩ rfl (Nat.le_of_ble_eq_true rfl) ?_
  refine j_ifb_ne (tgt := 11) dX0_fewest_5 (by decide) (fun c5 => ?_) (fun c5 => absurd (nI_inr hv (by omega)) c5)
  refine j_aload_n dX0_fewest_11 rfl ?_
  refine j_aload_n dX0_fewest_12 rfl ?_
  refine j_get 1 dX0_fewest_13 (by first | rfl | assumption) in_X0 rfl (by decide) q154 rfl ?_
  refine j_getN 0 dX0_fewest_16 (by first | rfl | assumption) in_X2 rfl (by decide) (fun _ hs => hs.1 _ qn125) rfl ?_
  refine j_aload_n dX0_fewest_19 rfl ?_
  refine j_get 0 dX0_fewest_20 (by first | rfl | assumption) in_X0 rfl (by decide) q153 rfl ?_
  refine j_getN 2 dX0_fewest_23 (by first | rfl | assumption) in_X1 rfl (by decide) (fun _ hs => hs.1 _ qn109) rfl ?_
  refine j_callV (f_spread h60 hK (F 0) hs) q_spread.isR dX0_fewest_26 pmX0_spread q924 q926 qs18 (by first | rfl | assumption) rfl rfl rfl ⟨Nat.le_of_ble_eq_true rfl, Nat.le_of_ble_eq_true rfl⟩ ⟨Nat.le_of_ble_eq_true rfl, Nat.le_of_ble_eq_true rfl⟩ rfl (Nat.le_of_ble_eq_true rfl) ?_
  rintro v9 r h9 nx ⟨e9, rfl, rfl, st, rw', bf, bk, fs, rfl, hR, hO⟩
  cases e9
  generalize hLF : (bAll (fun k a => stk kd bs m (ks k) a) nk (8 * m * m) (decA m (F 0))) = LF at hR hO ⊢
  refine j_aload_n dX0_fewest_29 rfl ?_
  refine j_iload_n dX0_fewest_30 rfl ?_
  refine j_callVi (f_fewestTo (V := vo V [(6, st), (7, rw'), (8, bf), (9, bk), (10, fs)]) hR hO hm2 v hv) dX0_fewest_31 pmX0_fewestTo q941 q943 qs19 (by first | rfl | assumption) rfl rfl rfl ⟨Nat.le_of_ble_eq_true rfl, Nat.le_of_ble_eq_true rfl⟩ ⟨Nat.le_of_ble_eq_true rfl, Nat.le_of_ble_eq_true rfl⟩ rfl (Nat.le_of_ble_eq_true rfl) ?_
  refine j_iret dX0_fewest_34 rfl rfl (Nat.le_refl _) (Nat.le_refl _) ?_
  exact js_i rfl vo5_sc
set_option maxHeartbeats 4000000 in
theorem f_fewest1o {l : Launch} {D : va_G} {dT : Nat → ClassId} {H0 : Heap} {r : Nat → Nat} {nx : Nat} {g : j_H} {F : Nat → Nat} {V : Nat → Nat → Int32} {nk : Nat} (h60 : g 60 = some (rcell (.ref (r 61)) (r 62) nk)) {kd bs fg m : Nat} {ks : Nat → KY} (hK : fkK r dT g kd bs fg m nk ks) (v : Int32) (hv : ¬ (0 ≤ v ∧ v ≤ nI m - 1)) : MC (gG l D dT H0) yX0_fewest cX0_fewest 2 (some .int) 7 0 0 [.ref (r 0), .int v] r (fkS r dT g F V) nx (jq_i (-1000000002) r (fkS r dT g F V) nx) := by
  obtain ⟨h61, hD, hkn, ka, h62, hks⟩ := id hK
  have hm := hD.pos
  have hm2 := hD.le
  have hmm := mm_le hm2
  refine MC.ofJ [some (.ref (r 0)), some (.int v)] rfl (Nat.le_of_ble_eq_true rfl) (by decide) ?_
  refine j_aload_n dX0_fewest_0 rfl ?_
  refine j_iload_n dX0_fewest_1 rfl ?_
  refine j_callVi (f_isNumber1 h60 h61 hm hm2 _) dX0_fewest_2 pmX0_isNumber q920 q922 qs17 (by first | rfl | assumption) rfl rfl rfl ⟨Nat.le_of_ble_eq_true rfl, Nat.le_of_ble_eq_true rfl⟩ ⟨Nat.le_of_ble_eq_true rfl, Nat.le_of_ble_eq_true rfl⟩ rfl (Nat.le_of_ble_eq_true rfl) ?_
  refine j_ifb_ne (tgt := 11) dX0_fewest_5 (by decide) (fun c5 => absurd c5 hv) (fun c5 => ?_)
  refine j_ldc dX0_fewest_8 q223 ?_
  refine j_iret dX0_fewest_10 rfl rfl (Nat.le_refl _) (Nat.le_refl _) ?_
  exact jr_i rfl
set_option maxHeartbeats 4000000 in
theorem f_way1o {l : Launch} {D : va_G} {dT : Nat → ClassId} {H0 : Heap} {r : Nat → Nat} {nx : Nat} {g : j_H} {F : Nat → Nat} {V : Nat → Nat → Int32} {nk : Nat} (h60 : g 60 = some (rcell (.ref (r 61)) (r 62) nk)) {kd bs fg m : Nat} {ks : Nat → KY} (hK : fkK r dT g kd bs fg m nk ks) (v w : Int32) (hv : ¬ (0 ≤ v ∧ v ≤ nI m - 1)) : MC (gG l D dT H0) yX0_way cX0_way 6 (some .int) 7 0 0 [.ref (r 0), .int v, .int w] r (fkS r dT g F V) nx (jq_i (-1000000002) r (fkS r dT g F V) nx) := by
  obtain ⟨h61, hD, hkn, ka, h62, hks⟩ := id hK
  have hm := hD.pos
  have hm2 := hD.le
  have hmm := mm_le hm2
  refine MC.ofJ [some (.ref (r 0)), some (.int v), some (.int w), none, none, none] rfl (Nat.le_of_ble_eq_true rfl) (by decide) ?_
  refine j_aload_n dX0_way_0 rfl ?_
  refine j_iload_n dX0_way_1 rfl ?_
  refine j_callVi (f_isNumber1 h60 h61 hm hm2 _) dX0_way_2 pmX0_isNumber q920 q922 qs17 (by first | rfl | assumption) rfl rfl rfl ⟨Nat.le_of_ble_eq_true rfl, Nat.le_of_ble_eq_true rfl⟩ ⟨Nat.le_of_ble_eq_true rfl, Nat.le_of_ble_eq_true rfl⟩ rfl (Nat.le_of_ble_eq_true rfl) ?_
  refine j_ifb_ne (tgt := 11) dX0_way_5 (by decide) (fun c5 => absurd c5 hv) (fun c5 => ?_)
  refine j_ldc dX0_way_8 q223 ?_
  refine j_iret dX0_way_10 rfl rfl (Nat.le_refl _) (Nat.le_refl _) ?_
  exact jr_i rfl
set_option maxHeartbeats 4000000 in
theorem f_least1o {l : Launch} {D : va_G} {dT : Nat → ClassId} {H0 : Heap} {r : Nat → Nat} {nx : Nat} {g : j_H} {F : Nat → Nat} {V : Nat → Nat → Int32} {nk : Nat} (h60 : g 60 = some (rcell (.ref (r 61)) (r 62) nk)) {kd bs fg m : Nat} {ks : Nat → KY} (hK : fkK r dT g kd bs fg m nk ks) (v : Int32) (hv : ¬ (0 ≤ v ∧ v ≤ nI m - 1)) : MC (gG l D dT H0) yX0_least cX0_least 4 (some .int) 7 0 0 [.ref (r 0), .int v] r (fkS r dT g F V) nx (jq_i (-1000000002) r (fkS r dT g F V) nx) := by
  obtain ⟨h61, hD, hkn, ka, h62, hks⟩ := id hK
  have hm := hD.pos
  have hm2 := hD.le
  have hmm := mm_le hm2
  refine MC.ofJ [some (.ref (r 0)), some (.int v), none, none] rfl (Nat.le_of_ble_eq_true rfl) (by decide) ?_
  refine j_aload_n dX0_least_0 rfl ?_
  refine j_iload_n dX0_least_1 rfl ?_
  refine j_callVi (f_isNumber1 h60 h61 hm hm2 _) dX0_least_2 pmX0_isNumber q920 q922 qs17 (by first | rfl | assumption) rfl rfl rfl ⟨Nat.le_of_ble_eq_true rfl, Nat.le_of_ble_eq_true rfl⟩ ⟨Nat.le_of_ble_eq_true rfl, Nat.le_of_ble_eq_true rfl⟩ rfl (Nat.le_of_ble_eq_true rfl) ?_
  refine j_ifb_ne (tgt := 11) dX0_least_5 (by decide) (fun c5 => absurd c5 hv) (fun c5 => ?_)
  refine j_ldc dX0_least_8 q223 ?_
  refine j_iret dX0_least_10 rfl rfl (Nat.le_refl _) (Nat.le_refl _) ?_
  exact jr_i rfl
set_option maxHeartbeats 4000000 in
theorem f_fewest0o {l : Launch} {D : va_G} {dT : Nat → ClassId} {H0 : Heap} {r : Nat → Nat} {nx : Nat} {g : j_H} {F : Nat → Nat} {V : Nat → Nat → Int32} {a nk : Nat} (h60 : g 60 = some (rcell .null a nk)) (v : Int32) (hv : ¬ (0 ≤ v ∧ v ≤ nI 0 - 1)) : MC (gG l D dT H0) yX0_fewest cX0_fewest 2 (some .int) 7 0 0 [.ref (r 0), .int v] r (fkS r dT g F V) nx (jq_i (-1000000002) r (fkS r dT g F V) nx) := by
  refine MC.ofJ [some (.ref (r 0)), some (.int v)] rfl (Nat.le_of_ble_eq_true rfl) (by decide) ?_
  refine j_aload_n dX0_fewest_0 rfl ?_
  refine j_iload_n dX0_fewest_1 rfl ?_
  refine j_callVi (f_isNumber0 h60 _) dX0_fewest_2 pmX0_isNumber q920 q922 qs17 (by first | rfl | assumption) rfl rfl rfl ⟨Nat.le_of_ble_eq_true rfl, Nat.le_of_ble_eq_true rfl⟩ ⟨Nat.le_of_ble_eq_true rfl, Nat.le_of_ble_eq_true rfl⟩ rfl (Nat.le_of_ble_eq_true rfl) ?_
  refine j_ifb_ne (tgt := 11) dX0_fewest_5 (by decide) (fun c5 => absurd c5 hv) (fun c5 => ?_)
  refine j_ldc dX0_fewest_8 q223 ?_
  refine j_iret dX0_fewest_10 rfl rfl (Nat.le_refl _) (Nat.le_refl _) ?_
  exact jr_i rfl
set_option maxHeartbeats 4000000 in
theorem f_way0o {l : Launch} {D : va_G} {dT : Nat → ClassId} {H0 : Heap} {r : Nat → Nat} {nx : Nat} {g : j_H} {F : Nat → Nat} {V : Nat → Nat → Int32} {a nk : Nat} (h60 : g 60 = some (rcell .null a nk)) (v w : Int32) (hv : ¬ (0 ≤ v ∧ v ≤ nI 0 - 1)) : MC (gG l D dT H0) yX0_way cX0_way 6 (some .int) 7 0 0 [.ref (r 0), .int v, .int w] r (fkS r dT g F V) nx (jq_i (-1000000002) r (fkS r dT g F V) nx) := by
  refine MC.ofJ [some (.ref (r 0)), some (.int v), some (.int w), none, none, none] rfl (Nat.le_of_ble_eq_true rfl) (by decide) ?_
  refine j_aload_n dX0_way_0 rfl ?_
  refine j_iload_n dX0_way_1 rfl ?_
  refine j_callVi (f_isNumber0 h60 _) dX0_way_2 pmX0_isNumber q920 q922 qs17 (by first | rfl | assumption) rfl rfl rfl ⟨Nat.le_of_ble_eq_true rfl, Nat.le_of_ble_eq_true rfl⟩ ⟨Nat.le_of_ble_eq_true rfl, Nat.le_of_ble_eq_true rfl⟩ rfl (Nat.le_of_ble_eq_true rfl) ?_
  refine j_ifb_ne (tgt := 11) dX0_way_5 (by decide) (fun c5 => absurd c5 hv) (fun c5 => ?_)
  refine j_ldc dX0_way_8 q223 ?_
  refine j_iret dX0_way_10 rfl rfl (Nat.le_refl _) (Nat.le_refl _) ?_
  exact jr_i rfl
set_option maxHeartbeats 4000000 in
theorem f_least0o {l : Launch} {D : va_G} {dT : Nat → ClassId} {H0 : Heap} {r : Nat → Nat} {nx : Nat} {g : j_H} {F : Nat → Nat} {V : Nat → Nat → Int32} {a nk : Nat} (h60 : g 60 = some (rcell .null a nk)) (v : Int32) (hv : ¬ (0 ≤ v ∧ v ≤ nI 0 - 1)) : MC (gG l D dT H0) yX0_least cX0_least 4 (some .int) 7 0 0 [.ref (r 0), .int v] r (fkS r dT g F V) nx (jq_i (-1000000002) r (fkS r dT g F V) nx) := by
  refine MC.ofJ [some (.ref (r 0)), some (.int v), none, none] rfl (Nat.le_of_ble_eq_true rfl) (by decide) ?_
  refine j_aload_n dX0_least_0 rfl ?_
  refine j_iload_n dX0_least_1 rfl ?_
  refine j_callVi (f_isNumber0 h60 _) dX0_least_2 pmX0_isNumber q920 q922 qs17 (by first | rfl | assumption) rfl rfl rfl ⟨Nat.le_of_ble_eq_true rfl, Nat.le_of_ble_eq_true rfl⟩ ⟨Nat.le_of_ble_eq_true rfl, Nat.le_of_ble_eq_true rfl⟩ rfl (Nat.le_of_ble_eq_true rfl) ?_
  refine j_ifb_ne (tgt := 11) dX0_least_5 (by decide) (fun c5 => absurd c5 hv) (fun c5 => ?_)
  refine j_ldc dX0_least_8 q223 ?_
  refine j_iret dX0_least_10 rfl rfl (Nat.le_refl _) (Nat.le_refl _) ?_
  exact jr_i rfl
def bUp (L : List BE) (e : BE) : Option BE := L.find? (fun x => x.1 == e.2.2.1)
/-- the key by which e's n-th forebear came -/
def bWay (L : List BE) : Nat → BE → Int32
  | 0, e => nI e.2.2.2
  | n + 1, e => match bUp L e with
    | none => -1
    | some q => bWay L n q
def wayV (L : List BE) (v : Nat) (i : Int32) : Int32 := match bFst L v with
  | none => -1
  | some e => if 0 ≤ i ∧ i ≤ nI e.2.1 - 1 then bWay L (e.2.1 - 1 - i.toInt.toNat) e else -1
theorem bUp_eq {m K : Nat} {L : List BE} (h : bOK m K L) {e : BE} (he : e ∈ L) (hd : 0 < e.2.1) : ∃ j q, L[j + 1]? = some e ∧ q ∈ L ∧ bUp L e = some q ∧ q.1 = e.2.2.1 ∧ e.2.1 = q.2.1 + 1 ∧ e.2.2.2 < K := by
  obtain ⟨j, hj⟩ := List.getElem?_of_mem he
  have h1 := h.2.2.1 j e hj
  obtain ⟨j, rfl⟩ : ∃ j', j = j' + 1 := ⟨j - 1, by omega⟩
  obtain ⟨h2, i, q, h3, h4, h5, h6⟩ := h.2.2.2 j e hj
  refine ⟨j, q, hj, List.mem_of_getElem? h4, ?_, h5, h6, h2⟩
  unfold bUp
  cases hf : L.find? (fun x => x.1 == e.2.2.1) with
  | none =>
    have := List.find?_eq_none.mp hf q (List.mem_of_getElem? h4)
    simp [h5] at this
  | some q' =>
    have hq' : q'.1 = e.2.2.1 := by have := List.find?_some hf; simpa using this
    obtain ⟨i', hi'⟩ := List.getElem?_of_mem (List.mem_of_find?_eq_some hf)
    have := h.1 i' i q' q hi' h4 (hq'.trans h5.symm)
    subst this
    rw [hi'] at h4
    exact h4
set_option maxHeartbeats 4000000 in
theorem f_way1 {l : Launch} {D : va_G} {dT : Nat → ClassId} {H0 : Heap} {r : Nat → Nat} {nx : Nat} {g : j_H} {F : Nat → Nat} {V : Nat → Nat → Int32} {nk : Nat} (h60 : g 60 = some (rcell (.ref (r 61)) (r 62) nk)) {kd bs fg m : Nat} {ks : Nat → KY} (hK : fkK r dT g kd bs fg m nk ks) (v : Nat) (hv : v < m) (i : Int32) (hs : F 0 < 8 * m * m) : MC (gG l D dT H0) yX0_way cX0_way 6 (some .int) 7 0 0 [.ref (r 0), .int (nI v), .int i] r (fkS r dT g F V) nx (jq_s (wayV (bAll (fun k a => stk kd bs m (ks k) a) nk (8 * m * m) (decA m (F 0))) v i) r dT g F V nx) := by
  obtain ⟨h61, hD, hkn, ka, h62, hks⟩ := id hK
  have hm := hD.pos
  have hm2 := hD.le
  have hmm := mm_le hm2
  refine MC.ofJ [some (.ref (r 0)), some (.int (nI v)), some (.int i), none, none, none] rfl (Nat.le_of_ble_eq_true rfl) (by decide) ?_
  refine j_aload_n dX0_way_0 rfl ?_
  refine j_iload_n dX0_way_1 rfl ?_
  refine j_callVi (f_isNumber1 h60 h61 hm hm2 _) dX0_way_2 pmX0_isNumber q920 q922 qs17 (by first | rfl | assumption) rfl rfl rfl ⟨Nat.le_of_ble_eq_true rfl, Nat.le_of_ble_eq_true rfl⟩ ⟨Nat.le_of_ble_eq_true rfl, Nat.le_of_ble_eq_true rfl⟩ rfl (Nat.le_of_ble_eq_true rfl) ?_
  refine j_ifb_ne (tgt := 11) dX0_way_5 (by decide) (fun c5 => ?_) (fun c5 => absurd (nI_inr hv (by omega)) c5)
  refine j_aload_n dX0_way_11 rfl ?_
  refine j_aload_n dX0_way_12 rfl ?_
  refine j_get 1 dX0_way_13 (by first | rfl | assumption) in_X0 rfl (by decide) q154 rfl ?_
  refine j_getN 0 dX0_way_16 (by first | rfl | assumption) in_X2 rfl (by decide) (fun _ hs => hs.1 _ qn125) rfl ?_
  refine j_aload_n dX0_way_19 rfl ?_
  refine j_get 0 dX0_way_20 (by first | rfl | assumption) in_X0 rfl (by decide) q153 rfl ?_
  refine j_getN 2 dX0_way_23 (by first | rfl | assumption) in_X1 rfl (by decide) (fun _ hs => hs.1 _ qn109) rfl ?_
  refine j_callV (f_spread h60 hK (F 0) hs) q_spread.isR dX0_way_26 pmX0_spread q924 q926 qs18 (by first | rfl | assumption) rfl rfl rfl ⟨Nat.le_of_ble_eq_true rfl, Nat.le_of_ble_eq_true rfl⟩ ⟨Nat.le_of_ble_eq_true rfl, Nat.le_of_ble_eq_true rfl⟩ rfl (Nat.le_of_ble_eq_true rfl) ?_
  rintro v9 r h9 nx ⟨e9, rfl, rfl, st, rw', bf, bk, fs, rfl, hR, hO⟩
  cases e9
  generalize hLF : (bAll (fun k a => stk kd bs m (ks k) a) nk (8 * m * m) (decA m (F 0))) = LF at hR hO ⊢
  refine j_aload_n dX0_way_29 rfl ?_
  refine j_iload_n dX0_way_30 rfl ?_
  refine j_callVi (f_fewestTo (V := vo V [(6, st), (7, rw'), (8, bf), (9, bk), (10, fs)]) hR hO hm2 v hv) dX0_way_31 pmX0_fewestTo q941 q943 qs19 (by first | rfl | assumption) rfl rfl rfl ⟨Nat.le_of_ble_eq_true rfl, Nat.le_of_ble_eq_true rfl⟩ ⟨Nat.le_of_ble_eq_true rfl, Nat.le_of_ble_eq_true rfl⟩ rfl (Nat.le_of_ble_eq_true rfl) ?_
  refine j_istore_n dX0_way_34 (by decide) rfl ?_
  refine j_iload_n dX0_way_35 rfl ?_
  refine j_iconst (v := 0) dX0_way_36 (by decide) ?_
  refine j_iload_n dX0_way_37 rfl ?_
  refine j_iconst (v := 1) dX0_way_38 (by decide) ?_
  refine j_isub dX0_way_39 ?_
  refine j_callSi (c_X0_isIn _ _ _) dX0_way_40 pmX0_isIn q220 q221 rfl ⟨Nat.le_of_ble_eq_true rfl, Nat.le_of_ble_eq_true rfl⟩ ⟨Nat.le_of_ble_eq_true rfl, Nat.le_of_ble_eq_true rfl⟩ rfl (Nat.le_of_ble_eq_true rfl) ?_
  refine j_ifb_ne (tgt := 48) dX0_way_43 (by decide) (fun c43 => ?_) (fun c43 => ?_)
  · skip
    obtain ⟨e, he⟩ : ∃ e, bFst LF v = some e := by
      cases hq : bFst LF v with
      | none =>
        rw [bN_none hq] at c43
        obtain ⟨d1, d2⟩ := c43
        rw [Int32.le_iff_toInt_le] at d1 d2
        rw [show (0 : Int32).toInt = 0 by decide] at d1
        rw [show ((-1 : Int32) - 1).toInt = -2 by decide] at d2
        omega
      | some e => exact ⟨e, rfl⟩
    have hed := hO.dist (bFst_mem he).1
    rw [bN_eq he] at c43 ⊢
    obtain ⟨w, hw, rfl⟩ := in_nI (by omega) c43
    have hwv : wayV LF v (nI w) = bWay LF (e.2.1 - 1 - w) e := by
      unfold wayV
      rw [he]
      show (if _ then bWay LF (e.2.1 - 1 - (nI w).toInt.toNat) e else _) = _
      rw [if_pos c43, nI_toInt (by omega)]
      rfl
    have hfs := hR.2.2.2 v hv
    unfold bFstC at hfs
    rw [he] at hfs
    refine j_aload_n dX0_way_48 rfl ?_
    refine j_get 12 dX0_way_49 (by first | rfl | assumption) in_X0 rfl (by decide) q165 rfl ?_
    refine j_iload_n dX0_way_52 rfl ?_
    refine j_iald 0 v dX0_way_53 (by first | rfl | assumption) rfl rfl (by show v < 100; omega) (by decide) ?_
    refine j_eqi (show _ = nI (encA m e.1) from hfs) ?_
    refine j_istore dX0_way_54 (by decide) rfl ?_
    refine j_iload_n dX0_way_56 rfl ?_
    refine j_iconst (v := 1) dX0_way_57 (by decide) ?_
    refine j_isub dX0_way_58 ?_
    refine j_istore dX0_way_59 (by decide) rfl ?_
    refine j_re (L' := [some (.ref (r 0)), some (.int (nI v)), some (.int (nI w)), some (.int (nI e.2.1)), some (.int (nI (encA m e.1))), some (.int (nI (e.2.1 - 1)))]) (by rw [show nI e.2.1 - 1 = nI (e.2.1 - 1) from pk_sub (b := 1) (by omega)]; rfl) rfl rfl ?_
    refine j_lp2 (fun (k : Nat) (x : BE) => fkS r dT g F (vo V [(6, st), (7, rw'), (8, bf), (9, bk), (10, fs)])) (fun k x => [some (.ref (r 0)), some (.int (nI v)), some (.int (nI w)), some (.int (nI e.2.1)), some (.int (nI (encA m x.1))), some (.int (nI k))]) (fun k x => x ∈ LF ∧ x.2.1 = k + 1 ∧ w ≤ k ∧ bWay LF (k - w) x = bWay LF (e.2.1 - 1 - w) e) (fun k _ => k) ?_ (e.2.1 - 1) e ⟨(bFst_mem he).1, by omega, by omega, rfl⟩
    intro k x ⟨hxm, hxd, hwk, hbw⟩ ih
    have hxl := encA_lt (hO.2.1 x hxm)
    have hxd2 := hO.dist hxm
    obtain ⟨jx, qx, hjx, hqx, hup, hq1, hq2, hq3⟩ := bUp_eq hO hxm (by omega)
    refine j_iload dX0_way_61 rfl ?_
    refine j_iload_n dX0_way_63 rfl ?_
    refine j_icmp_le (tgt := 82) dX0_way_64 (by decide) (fun c64 => ?_) (fun c64 => ?_)
    · skip
      have hkw : k = w := by
        have := (nI_leI (by omega) (by omega)).mp c64
        omega
      subst hkw
      refine j_aload_n dX0_way_82 rfl ?_
      refine j_get 11 dX0_way_83 (by first | rfl | assumption) in_X0 rfl (by decide) q164 rfl ?_
      refine j_iload dX0_way_86 rfl ?_
      refine j_bald 1 (encA m x.1) dX0_way_88 (by first | rfl | assumption) rfl rfl (by show encA m x.1 < 80000; omega) (by decide) ?_
      refine j_eqi (show _ = nI x.2.2.2 from (hR.2.2.1 jx x hjx).2) ?_
      refine j_iret dX0_way_89 rfl rfl (Nat.le_refl _) (Nat.le_refl _) ?_
      refine js_i ?_ vo5_sc
      rw [hwv, ← hbw, Nat.sub_self, bWay]
    · skip
      have hkw : w < k := Nat.lt_of_not_le (fun q => c64 (nI_le q (by omega)))
      refine j_aload_n dX0_way_67 rfl ?_
      refine j_get 10 dX0_way_68 (by first | rfl | assumption) in_X0 rfl (by decide) q163 rfl ?_
      refine j_iload dX0_way_71 rfl ?_
      refine j_iald 0 (encA m x.1) dX0_way_73 (by first | rfl | assumption) rfl rfl (by show encA m x.1 < 80000; omega) (by decide) ?_
      refine j_eqi (show _ = nI (encA m qx.1) from ((hR.2.2.1 jx x hjx).1.trans (by rw [hq1]))) ?_
      refine j_istore dX0_way_74 (by decide) rfl ?_
      refine j_iinc dX0_way_76 rfl (by decide) rfl ?_
      refine j_goto (tgt := 61) dX0_way_79 (by decide) ?_
      refine j_re (by rw [i32_dec, show nI k - 1 = nI (k - 1) from pk_sub (b := 1) (by omega)]; rfl) rfl rfl (ih (k - 1) qx ⟨hqx, by omega, by omega, ?_⟩ (by omega))
      rw [← hbw, show k - w = (k - 1 - w) + 1 by omega, bWay, hup]
  · skip
    have hwv : wayV LF v i = -1 := by
      unfold wayV
      cases hq : bFst LF v with
      | none => rfl
      | some e =>
        rw [bN_eq hq] at c43
        exact if_neg c43
    refine j_iconst (v := (-1)) dX0_way_46 (by decide) ?_
    refine j_iret dX0_way_47 rfl rfl (Nat.le_refl _) (Nat.le_refl _) ?_
    exact js_i hwv.symm vo5_sc
