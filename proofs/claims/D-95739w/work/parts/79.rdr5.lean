set_option maxRecDepth 100000
/-- a key without its end -/
def pC (T : Nat → Nat) (n p k nm ot : Nat) : pR := if (pNum T n p 1 99).1 = 0 then (0, 0, (k, (pNum T n p 1 99).2.1, nm, ot), (pNum T n p 1 99).2.2) else pF (pNum T n p 1 99).1 (pNum T n p 1 99).2.1
def pKc (T : Nat → Nat) (n bs m w p : Nat) : pR :=
  if w = 4 then pNm T n p 0 (bs - 1) (fun d e => pC T n e 0 d 0)
  else if w = 10 then (if 5 ≤ wK T n (sk T n p) ∧ wK T n (sk T n p) ≤ 7 then pNm T n (we T n (sk T n p)) 0 (m - 1) (fun v e => pC T n e 6 v (wK T n (sk T n p) - 4)) else pF 1 (sk T n p))
  else if w = 11 then pNm T n p 0 (bs - 1) (fun d e => pNm T n e 0 (bs - 1) (fun d2 e2 => pC T n e2 7 d d2))
  else pC T n p (w - 4) 0 0
def pEn (T : Nat → Nat) (n : Nat) (x : pR) : pR := if x.1 = 0 then (if (pEnd T n x.2.2.2).1 = 0 then (0, 0, x.2.2.1, (pEnd T n x.2.2.2).2.2) else pF (pEnd T n x.2.2.2).1 (pEnd T n x.2.2.2).2.1) else x
theorem pEn_no {T : Nat → Nat} {n f x : Nat} (h : ¬ f = 0) : pEn T n (pF f x) = pF f x := if_neg h
theorem pCE_C {T : Nat → Nat} {n p k nm ot : Nat} : pCE T n p k nm ot = pEn T n (pC T n p k nm ot) := by
  unfold pCE pC
  by_cases h : (pNum T n p 1 99).1 = 0
  · rw [if_pos h, if_pos h]; exact (if_pos rfl).symm
  · rw [if_neg h, if_neg h, pEn_no h]
theorem pNm_1 {T : Nat → Nat} {n p lo hi : Nat} {c : Nat → Nat → pR} (h : (pNum T n p lo hi).1 = 0) : pNm T n p lo hi c = c (pNum T n p lo hi).2.1 (pNum T n p lo hi).2.2 := if_pos h
theorem pNm_0 {T : Nat → Nat} {n p lo hi : Nat} {c : Nat → Nat → pR} (h : ¬ (pNum T n p lo hi).1 = 0) : pNm T n p lo hi c = pF (pNum T n p lo hi).1 (pNum T n p lo hi).2.1 := if_neg h
theorem pC_ok {T : Nat → Nat} {n p k nm ot : Nat} (h : (pNum T n p 1 99).1 = 0) : pC T n p k nm ot = (0, 0, (k, (pNum T n p 1 99).2.1, nm, ot), (pNum T n p 1 99).2.2) := if_pos h
theorem pC_no {T : Nat → Nat} {n p k nm ot : Nat} (h : ¬ (pNum T n p 1 99).1 = 0) : pC T n p k nm ot = pF (pNum T n p 1 99).1 (pNum T n p 1 99).2.1 := if_neg h
theorem pNm_En {T : Nat → Nat} {n p lo hi : Nat} {c c' : Nat → Nat → pR} (h : ∀ v e, c v e = pEn T n (c' v e)) : pNm T n p lo hi c = pEn T n (pNm T n p lo hi c') := by
  by_cases hk : (pNum T n p lo hi).1 = 0
  · rw [pNm_1 hk, pNm_1 hk, h]
  · rw [pNm_0 hk, pNm_0 hk, pEn_no hk]
theorem pKey_C {T : Nat → Nat} {n bs m w p : Nat} : pKey T n bs m w p = pEn T n (pKc T n bs m w p) := by
  unfold pKey pKc
  by_cases h4 : w = 4
  · rw [if_pos h4, if_pos h4]; exact pNm_En (fun v e => pCE_C)
  rw [if_neg h4, if_neg h4]
  by_cases h10 : w = 10
  · rw [if_pos h10, if_pos h10]
    by_cases hk : 5 ≤ wK T n (sk T n p) ∧ wK T n (sk T n p) ≤ 7
    · rw [if_pos hk, if_pos hk]; exact pNm_En (fun v e => pCE_C)
    · rw [if_neg hk, if_neg hk, pEn_no (by decide)]
  rw [if_neg h10, if_neg h10]
  by_cases h11 : w = 11
  · rw [if_pos h11, if_pos h11]; exact pNm_En (fun v e => pNm_En (fun v e => pCE_C))
  · rw [if_neg h11, if_neg h11]; exact pCE_C
theorem pKc4 {T : Nat → Nat} {n bs m p : Nat} : pKc T n bs m 4 p = pNm T n p 0 (bs - 1) (fun d e => pC T n e 0 d 0) := if_pos rfl
theorem pKc10 {T : Nat → Nat} {n bs m p : Nat} : pKc T n bs m 10 p = if 5 ≤ wK T n (sk T n p) ∧ wK T n (sk T n p) ≤ 7 then pNm T n (we T n (sk T n p)) 0 (m - 1) (fun v e => pC T n e 6 v (wK T n (sk T n p) - 4)) else pF 1 (sk T n p) := by
  unfold pKc
  rw [if_neg (by decide), if_pos rfl]
theorem pKc11 {T : Nat → Nat} {n bs m p : Nat} : pKc T n bs m 11 p = pNm T n p 0 (bs - 1) (fun d e => pNm T n e 0 (bs - 1) (fun d2 e2 => pC T n e2 7 d d2)) := by
  unfold pKc
  rw [if_neg (by decide), if_neg (by decide), if_pos rfl]
theorem pKcE {T : Nat → Nat} {n bs m w p : Nat} (h4 : w ≠ 4) (h10 : w ≠ 10) (h11 : w ≠ 11) : pKc T n bs m w p = pC T n p (w - 4) 0 0 := by
  unfold pKc
  rw [if_neg h4, if_neg h10, if_neg h11]
/-- a key is made (under the id nk + 220), or a Fault is thrown -/
def q_kt (res : pR) (n nk : Nat) (r : Nat → Nat) (h : j_H) : j_Q := fun o r' h' nx' => (res.1 = 0 ∧ o = .returned (some (.ref (r' (nk + 220)))) ∧ h' (nk + 220) = some (kcell (r 202) res.2.2.1) ∧ (∃ f', h' 200 = some (rdC (r 5) n (r 201) res.2.2.2 f')) ∧ ∀ i, kpI i → i ≠ nk + 220 → r' i = r i ∧ (i ≠ 200 → h' i = h i)) ∨ (¬ res.1 = 0 ∧ q_T res.1 res.2.1 r h o r' h' nx')
theorem q_kt.bad {f x n nk : Nat} {r r' : Nat → Nat} {h h' : j_H} {o : Outcome} {nx' : Nat} (hno : ¬ f = 0) (hq : q_T f x r h o r' h' nx') : q_kt (pF f x) n nk r h o r' h' nx' := Or.inr ⟨hno, hq⟩
theorem q_kt.good {n nk : Nat} {r r' : Nat → Nat} {h h' : j_H} {nx' e f' : Nat} {k : KY} (h1 : h' (nk + 220) = some (kcell (r 202) k)) (h2 : h' 200 = some (rdC (r 5) n (r 201) e f')) (h3 : ∀ i, kpI i → i ≠ nk + 220 → r' i = r i ∧ (i ≠ 200 → h' i = h i)) : q_kt (0, 0, k, e) n nk r h (.returned (some (.ref (r' (nk + 220))))) r' h' nx' := Or.inl ⟨rfl, rfl, h1, ⟨f', h2⟩, h3⟩
def q_k1 (res : pR) (n nk : Nat) (r : Nat → Nat) (h : j_H) : j_Q := fun o r' h' _ => o = .returned (some (.ref (r' (nk + 220)))) ∧ h' (nk + 220) = some (kcell (r 202) res.2.2.1) ∧ (∃ f', h' 200 = some (rdC (r 5) n (r 201) res.2.2.2 f')) ∧ ∀ i, kpI i → i ≠ nk + 220 → r' i = r i ∧ (i ≠ 200 → h' i = h i)
theorem q_k1.isR {res : pR} {n nk : Nat} {r : Nat → Nat} {h : j_H} : j_isR (q_k1 res n nk r h) := fun _ _ _ _ hq => ⟨_, hq.1⟩
theorem q_kt.ok {res : pR} {n nk : Nat} {r r' : Nat → Nat} {h h' : j_H} {o : Outcome} {nx' : Nat} (hok : res.1 = 0) (hq : q_kt res n nk r h o r' h' nx') : q_k1 res n nk r h o r' h' nx' := by
  rcases hq with hq | hq
  · exact hq.2
  · exact absurd hok hq.1
theorem q_kt.no {res : pR} {n nk : Nat} {r r' : Nat → Nat} {h h' : j_H} {o : Outcome} {nx' : Nat} (hok : ¬ res.1 = 0) (hq : q_kt res n nk r h o r' h' nx') : q_T res.1 res.2.1 r h o r' h' nx' := by
  rcases hq with hq | hq
  · exact absurd hq.1 hok
  · exact hq.2
set_option maxHeartbeats 4000000 in
theorem r_stuck {l : Launch} {D : va_G} {dT : Nat → ClassId} {H0 : Heap} {r : Nat → Nat} {h : j_H} {nx : Nat} {dTx : Nat → Int32} {T : Nat → Nat} {n a fr kd bs fg m nk : Nat} (h5 : h 5 = some (txC dT dTx)) (hsb : sbR dTx n T) (hn4 : n ≤ 400) (ha : a ≤ n) (h200 : h 200 = some (rdC (r 5) n (r 201) a fr)) (h201 : h 201 = some (rcell (.ref (r 202)) (r 203) nk)) (h202 : h 202 = some (dcell kd bs fg m)) (hD : okD kd bs m) (hnk : nk ≤ 8) (hk : h (nk + 220) = none) (h240 : h 240 = none) : MC (gG l D dT H0) yX4_stuck cX4_stuck 3 (some (.object "FewKeys$Key")) 7 2 16 [.ref (r 200)] r h nx (q_kt (pKc T n bs m 11 a) n nk r h) := by
  refine MC.ofJ [some (.ref (r 200)), none, none] rfl (Nat.le_of_ble_eq_true rfl) (by decide) ?_
  rw [pKc11]
  have hbs : 2 ≤ bs ∧ bs ≤ 10 := ⟨hD.2.1, hD.2.2.1⟩
  refine j_re rfl rfl (h' := j_set h 200 (rdC (r 5) n (r 201) a fr)) (j_set_id h200).symm ?_
  refine j_aload_n dX4_stuck_0 rfl ?_
  by_cases ok1 : (pNum T n a 0 (bs - 1)).1 = 0
  · skip
    refine j_callVi (r_fig1 h5 hsb hn4 ha h201 h202 hbs ok1) dX4_stuck_1 pmX4_figure q643 q645 qs7 j_set_self rfl rfl rfl ⟨Nat.le_of_ble_eq_true rfl, Nat.le_of_ble_eq_true rfl⟩ ⟨Nat.le_of_ble_eq_true rfl, Nat.le_of_ble_eq_true rfl⟩ rfl (Nat.le_of_ble_eq_true rfl) ?_
    rw [pNm_1 ok1]
    refine j_istore_n dX4_stuck_4 (by decide) rfl ?_
    refine j_aload_n dX4_stuck_5 rfl ?_
    by_cases ok2 : (pNum T n (pNum T n a 0 (bs - 1)).2.2 0 (bs - 1)).1 = 0
    · skip
      refine j_callVi (r_fig1 h5 hsb hn4 (pNum_pos ha ok1).2.2.1 h201 h202 hbs ok2) dX4_stuck_6 pmX4_figure q643 q645 qs7 j_set_self rfl rfl rfl ⟨Nat.le_of_ble_eq_true rfl, Nat.le_of_ble_eq_true rfl⟩ ⟨Nat.le_of_ble_eq_true rfl, Nat.le_of_ble_eq_true rfl⟩ rfl (Nat.le_of_ble_eq_true rfl) ?_
      rw [pNm_1 ok2]
      refine j_istore_n dX4_stuck_9 (by decide) rfl ?_
      obtain ⟨r2, hr2, q2⟩ : ∃ r2 : Nat → Nat, (∀ i, i ≠ nk + 220 → r2 i = r i) ∧ r2 (nk + 220) = nx := ⟨va_up r (nk + 220) nx, fun i hi => va_up_ne _ _ hi, va_up_self _ _ _⟩
      refine j_sc (r' := r2) (fun i e hi => hr2 i (fun z => by rw [z, j_set_ne (by omega), hk] at hi; cases hi)) ?_
      refine j_re (L' := [some (.ref (r2 200)), some (.int (nI (pNum T n a 0 (bs - 1)).2.1)), some (.int (nI (pNum T n (pNum T n a 0 (bs - 1)).2.2 0 (bs - 1)).2.1))]) (h' := (j_set h 200 (rdC (r2 5) n (r2 201) (pNum T n (pNum T n a 0 (bs - 1)).2.2 0 (bs - 1)).2.2 (sk T n (pNum T n a 0 (bs - 1)).2.2)))) (by rw [hr2 200 (by omega)]; first | done | rfl) rfl (by rw [hr2 5 (by omega), hr2 201 (by omega)]) ?_
      refine j_new (ci := 12) (fs := [.null, .int 0, .int 0, .int 0]) (nk + 220) q2 dX4_stuck_10 in_X12 tyX12_ok rfl q726 q727 q85 (fun j hj => by
        have hj3 : j = 0 ∨ j = 1 ∨ j = 2 ∨ j = 3 := by have hj4 : j < 4 := hj; omega
        rcases hj3 with rfl | rfl | rfl | rfl <;> rfl) (Nat.le_of_ble_eq_true rfl) (Nat.le_of_ble_eq_true rfl) ?_
      refine j_re rfl rfl (h' := (j_set (j_set h (nk + 220) (.inr (12, [.null, .int 0, .int 0, .int 0]))) 200 (rdC (r2 5) n (r2 201) (pNum T n (pNum T n a 0 (bs - 1)).2.2 0 (bs - 1)).2.2 (sk T n (pNum T n a 0 (bs - 1)).2.2)))) (j_set_comm _ _ _ (by omega)) ?_
      have hat9 : (pNum T n (pNum T n a 0 (bs - 1)).2.2 0 (bs - 1)).2.2 ≤ n := (pNum_pos (pNum_pos ha ok1).2.2.1 ok2).2.2.1
      have h5n : (j_set h (nk + 220) (.inr (12, [.null, .int 0, .int 0, .int 0]))) 5 = some (txC dT dTx) := by rw [j_set_ne (by omega)]; exact h5
      have h240n : (j_set h (nk + 220) (.inr (12, [.null, .int 0, .int 0, .int 0]))) 240 = none := by rw [j_set_ne (by omega)]; exact h240
      refine j_dup dX4_stuck_13 rfl ?_
      refine j_aload_n dX4_stuck_14 rfl ?_
      refine j_get 2 dX4_stuck_15 j_set_self in_X4 rfl (by decide) q240 rfl ?_
      refine j_getN 0 dX4_stuck_18 (by rw [j_set_ne (by decide), j_set_ne (by omega)]; exact h201) in_X1 rfl (by decide) (fun _ hs => hs.1 _ qn105) rfl ?_
      refine j_iload_n dX4_stuck_21 rfl ?_
      refine j_iload_n dX4_stuck_22 rfl ?_
      refine j_aload_n dX4_stuck_23 rfl ?_
      by_cases hcs : (pNum T n (pNum T n (pNum T n a 0 (bs - 1)).2.2 0 (bs - 1)).2.2 1 99).1 = 0
      · skip
        refine j_callVi (r_cost1 h5n hsb hn4 hat9 hcs) dX4_stuck_24 pmX4_cost q649 q651 qs8 j_set_self rfl rfl rfl ⟨Nat.le_of_ble_eq_true rfl, Nat.le_of_ble_eq_true rfl⟩ ⟨Nat.le_of_ble_eq_true rfl, Nat.le_of_ble_eq_true rfl⟩ rfl (Nat.le_of_ble_eq_true rfl) ?_
        rw [pC_ok hcs]
        refine j_callIv (c_iStuck (nk + 220) (r 202) (nI (pNum T n (pNum T n (pNum T n a 0 (bs - 1)).2.2 0 (bs - 1)).2.2 1 99).2.1) (nI (pNum T n a 0 (bs - 1)).2.1) (nI (pNum T n (pNum T n a 0 (bs - 1)).2.2 0 (bs - 1)).2.1) (by rw [j_set_ne (by omega)]; exact j_set_self)) dX4_stuck_27 pmX12_init q728 q729 rfl rfl ⟨Nat.le_of_ble_eq_true rfl, Nat.le_of_ble_eq_true rfl⟩ ⟨Nat.le_of_ble_eq_true rfl, Nat.le_of_ble_eq_true rfl⟩ rfl (Nat.le_of_ble_eq_true rfl) ?_
        refine j_aret dX4_stuck_30 rfl (Or.inl ⟨_, rfl⟩) (Or.inr ⟨_, rfl⟩) (Nat.le_of_ble_eq_true rfl) (Nat.le_of_ble_eq_true rfl) ?_
        refine q_kt.good (f' := sk T n (pNum T n (pNum T n a 0 (bs - 1)).2.2 0 (bs - 1)).2.2) ?_ ?_ (fun i hi hi2 => ⟨?_, fun hi3 => ?_⟩)
        · exact (show j_set _ (nk + 220) _ (nk + 220) = _ from j_set_self).trans (by rfl)
        · refine (show j_set _ (nk + 220) _ 200 = _ from (j_set_ne (by omega)).trans j_set_self).trans ?_
          rw [hr2 5 (by omega), hr2 201 (by omega)]
        · rw [hr2 i hi2]
        · exact (show j_set _ (nk + 220) _ i = _ from j_set_ne hi2).trans ((j_set_ne hi3).trans ((j_set_ne hi2).trans rfl))
      · skip
        rw [pC_no hcs]
        have hno := hcs
        refine j_callVT (s_cost0 h5n hsb hn4 hat9 hcs h240n) q_T.isT rfl dX4_stuck_24 pmX4_cost q649 q651 qs8 j_set_self rfl rfl rfl ⟨(Nat.le_of_ble_eq_true rfl), (Nat.le_of_ble_eq_true rfl)⟩ ⟨(Nat.le_of_ble_eq_true rfl), (Nat.le_of_ble_eq_true rfl)⟩ rfl (Nat.le_of_ble_eq_true rfl) (Nat.le_of_ble_eq_true rfl) (Nat.le_of_ble_eq_true rfl) ?_
        intro v9 r9 h9 nx9 hq9
        exact q_kt.bad hno (hq9.up rfl rfl (fun i hi => ⟨(hr2 i (by omega)).trans rfl, (by rw [j_set_ne (by omega), j_set_ne (by omega)])⟩))
    · skip
      rw [pNm_0 ok2]
      have hno := ok2
      refine j_callVT (r_fig0 h5 hsb hn4 (pNum_pos ha ok1).2.2.1 h201 h202 hbs ok2 h240) q_T.isT rfl dX4_stuck_6 pmX4_figure q643 q645 qs7 j_set_self rfl rfl rfl ⟨(Nat.le_of_ble_eq_true rfl), (Nat.le_of_ble_eq_true rfl)⟩ ⟨(Nat.le_of_ble_eq_true rfl), (Nat.le_of_ble_eq_true rfl)⟩ rfl (Nat.le_of_ble_eq_true rfl) (Nat.le_of_ble_eq_true rfl) (Nat.le_of_ble_eq_true rfl) ?_
      intro v9 r9 h9 nx9 hq9
      exact q_kt.bad hno (hq9.up rfl rfl (fun i hi => ⟨rfl, (by rw [j_set_ne (by omega)])⟩))
  · skip
    rw [pNm_0 ok1]
    have hno := ok1
    refine j_callVT (r_fig0 h5 hsb hn4 ha h201 h202 hbs ok1 h240) q_T.isT rfl dX4_stuck_1 pmX4_figure q643 q645 qs7 j_set_self rfl rfl rfl ⟨(Nat.le_of_ble_eq_true rfl), (Nat.le_of_ble_eq_true rfl)⟩ ⟨(Nat.le_of_ble_eq_true rfl), (Nat.le_of_ble_eq_true rfl)⟩ rfl (Nat.le_of_ble_eq_true rfl) (Nat.le_of_ble_eq_true rfl) (Nat.le_of_ble_eq_true rfl) ?_
    intro v9 r9 h9 nx9 hq9
    exact q_kt.bad hno (hq9.up rfl rfl (fun i hi => ⟨rfl, (by rw [j_set_ne (by omega)])⟩))
set_option maxHeartbeats 4000000 in
theorem r_now {l : Launch} {D : va_G} {dT : Nat → ClassId} {H0 : Heap} {r : Nat → Nat} {h : j_H} {nx : Nat} {dTx : Nat → Int32} {T : Nat → Nat} {n a fr kd bs fg m nk : Nat} (h5 : h 5 = some (txC dT dTx)) (hsb : sbR dTx n T) (hn4 : n ≤ 400) (ha : a ≤ n) (h200 : h 200 = some (rdC (r 5) n (r 201) a fr)) (h201 : h 201 = some (rcell (.ref (r 202)) (r 203) nk)) (h202 : h 202 = some (dcell kd bs fg m)) (hD : okD kd bs m) (hnk : nk ≤ 8) (hk : h (nk + 220) = none) (h240 : h 240 = none) (hsc : scF h) : MC (gG l D dT H0) yX4_now cX4_now 4 (some (.object "FewKeys$Key")) 7 12 1620 [.ref (r 200)] r h nx (q_kt (pKc T n bs m 10 a) n nk r h) := by
  refine MC.ofJ [some (.ref (r 200)), none, none, none] rfl (Nat.le_of_ble_eq_true rfl) (by decide) ?_
  rw [pKc10]
  have hwl : (we T n (sk T n a)) ≤ n := rgE_le (rgE_le ha)
  refine j_aload_n dX4_now_0 rfl ?_
  refine j_callV (r_word h5 hsb hn4 ha h200 hsc) q_word.isR dX4_now_1 pmX4_word q266 q268 qs2 h200 rfl rfl rfl ⟨Nat.le_of_ble_eq_true rfl, Nat.le_of_ble_eq_true rfl⟩ ⟨Nat.le_of_ble_eq_true rfl, Nat.le_of_ble_eq_true rfl⟩ rfl (Nat.le_of_ble_eq_true rfl) ?_
  rintro v9 r1 h1 nx1 ⟨e9, hfr, h200, h213, g, h214, hg⟩
  cases e9
  have hr200 := (hfr 200 (Or.inl (by decide))).1
  have h5 : h1 5 = some (txC dT dTx) := by rw [(hfr 5 (Or.inl (by decide))).2 (by decide)]; exact h5
  have h201 : h1 201 = some (rcell (.ref (r1 202)) (r1 203) nk) := by rw [(hfr 201 (Or.inl (by decide))).2 (by decide), (hfr 202 (Or.inl (by decide))).1, (hfr 203 (Or.inl (by decide))).1]; exact h201
  have h202 : h1 202 = some (dcell kd bs fg m) := by rw [(hfr 202 (Or.inl (by decide))).2 (by decide)]; exact h202
  have h240 : h1 240 = none := by rw [(hfr 240 (Or.inr (by decide))).2 (by decide)]; exact h240
  have hk : h1 (nk + 220) = none := by rw [(hfr (nk + 220) (Or.inr (by omega))).2 (by omega)]; exact hk
  have h200 : h1 200 = some (rdC (r1 5) n (r1 201) (we T n (sk T n a)) (sk T n a)) := by rw [(hfr 5 (Or.inl (by decide))).1, (hfr 201 (Or.inl (by decide))).1]; exact h200
  have hwb : we T n (sk T n a) - sk T n a < 2 ^ 30 := by have := rgE_le (lo := 97) (hi := 122) (T := T) (rgE_le (lo := 32) (hi := 32) (T := T) ha); omega
  have h213 : h1 213 = some (strH (r1 214) 0) := h213
  refine j_re (L' := [some (.ref (r1 200)), none, none, none]) (by rw [hr200]) rfl rfl ?_
  refine j_astore_n dX4_now_4 (by decide) rfl ?_
  refine j_aload_n dX4_now_5 rfl ?_
  refine j_aload_n dX4_now_6 rfl ?_
  refine j_aload_n dX4_now_7 rfl ?_
  refine j_get 4 dX4_now_8 h200 in_X4 rfl (by decide) q242 rfl ?_
  by_cases hwk : 5 ≤ wK T n (sk T n a) ∧ wK T n (sk T n a) ≤ 7
  · skip
    refine j_callVi (r_sign1 h213 h214 hg hwb (sk T n a) hwk) dX4_now_11 pmX4_sign q703 q705 qs10 h200 rfl rfl rfl ⟨Nat.le_of_ble_eq_true rfl, Nat.le_of_ble_eq_true rfl⟩ ⟨Nat.le_of_ble_eq_true rfl, Nat.le_of_ble_eq_true rfl⟩ rfl (Nat.le_of_ble_eq_true rfl) ?_
    rw [if_pos hwk]
    refine j_eqi (show _ = nI (wK T n (sk T n a) - 4) from rfl) ?_
    refine j_istore_n dX4_now_14 (by decide) rfl ?_
    refine j_re rfl rfl (h' := (j_set h1 200 (rdC (r1 5) n (r1 201) (we T n (sk T n a)) (sk T n a)))) (j_set_id h200).symm ?_
    refine j_aload_n dX4_now_15 rfl ?_
    refine j_iconst (v := 0) dX4_now_16 (by decide) ?_
    refine j_aload_n dX4_now_17 rfl ?_
    refine j_get 2 dX4_now_18 j_set_self in_X4 rfl (by decide) q240 rfl ?_
    refine j_getN 0 dX4_now_21 (by rw [j_set_ne (by decide)]; exact h201) in_X1 rfl (by decide) (fun _ hs => hs.1 _ qn105) rfl ?_
    refine j_getN 3 dX4_now_24 (by rw [j_set_ne (by decide)]; exact h202) in_X6 rfl (by decide) (fun _ hs => hs.1 _ qn561) rfl ?_
    refine j_iconst (v := 1) dX4_now_27 (by decide) ?_
    refine j_isub dX4_now_28 ?_
    refine j_eqi (show _ = nI (m - 1) from nI_sub (b := 1) hD.pos) ?_
    by_cases okn : (pNum T n (we T n (sk T n a)) 0 (m - 1)).1 = 0
    · skip
      refine j_callVi (r_num1 h5 hsb hn4 hwl 0 (m - 1) (by have := hD.le; omega) okn) dX4_now_29 pmX4_number q541 q543 qs4 j_set_self rfl rfl rfl ⟨Nat.le_of_ble_eq_true rfl, Nat.le_of_ble_eq_true rfl⟩ ⟨Nat.le_of_ble_eq_true rfl, Nat.le_of_ble_eq_true rfl⟩ rfl (Nat.le_of_ble_eq_true rfl) ?_
      rw [pNm_1 okn]
      refine j_istore_n dX4_now_32 (by decide) rfl ?_
      obtain ⟨r2, hr2, q2⟩ : ∃ r2 : Nat → Nat, (∀ i, i ≠ nk + 220 → r2 i = r1 i) ∧ r2 (nk + 220) = nx1 := ⟨va_up r1 (nk + 220) nx1, fun i hi => va_up_ne _ _ hi, va_up_self _ _ _⟩
      refine j_sc (r' := r2) (fun i e hi => hr2 i (fun z => by rw [z, j_set_ne (by omega), hk] at hi; cases hi)) ?_
      refine j_re (L' := [some (.ref (r2 200)), some (.ref (r1 213)), some (.int (nI (wK T n (sk T n a) - 4))), some (.int (nI (pNum T n (we T n (sk T n a)) 0 (m - 1)).2.1))]) (h' := (j_set h1 200 (rdC (r2 5) n (r2 201) (pNum T n (we T n (sk T n a)) 0 (m - 1)).2.2 (sk T n (we T n (sk T n a)))))) (by rw [hr2 200 (by omega)]; first | done | rfl) rfl (by rw [hr2 5 (by omega), hr2 201 (by omega)]) ?_
      refine j_new (ci := 11) (fs := [.null, .int 0, .int 0, .int 0]) (nk + 220) q2 dX4_now_33 in_X11 tyX11_ok rfl q707 q708 q84 (fun j hj => by
        have hj3 : j = 0 ∨ j = 1 ∨ j = 2 ∨ j = 3 := by have hj4 : j < 4 := hj; omega
        rcases hj3 with rfl | rfl | rfl | rfl <;> rfl) (Nat.le_of_ble_eq_true rfl) (Nat.le_of_ble_eq_true rfl) ?_
      refine j_re rfl rfl (h' := (j_set (j_set h1 (nk + 220) (.inr (11, [.null, .int 0, .int 0, .int 0]))) 200 (rdC (r2 5) n (r2 201) (pNum T n (we T n (sk T n a)) 0 (m - 1)).2.2 (sk T n (we T n (sk T n a)))))) (j_set_comm _ _ _ (by omega)) ?_
      have hat9 : (pNum T n (we T n (sk T n a)) 0 (m - 1)).2.2 ≤ n := (pNum_pos hwl okn).2.2.1
      have h5n : (j_set h1 (nk + 220) (.inr (11, [.null, .int 0, .int 0, .int 0]))) 5 = some (txC dT dTx) := by rw [j_set_ne (by omega)]; exact h5
      have h240n : (j_set h1 (nk + 220) (.inr (11, [.null, .int 0, .int 0, .int 0]))) 240 = none := by rw [j_set_ne (by omega)]; exact h240
      refine j_dup dX4_now_36 rfl ?_
      refine j_aload_n dX4_now_37 rfl ?_
      refine j_get 2 dX4_now_38 j_set_self in_X4 rfl (by decide) q240 rfl ?_
      refine j_getN 0 dX4_now_41 (by rw [j_set_ne (by decide), j_set_ne (by omega)]; exact h201) in_X1 rfl (by decide) (fun _ hs => hs.1 _ qn105) rfl ?_
      refine j_iload_n dX4_now_44 rfl ?_
      refine j_iload_n dX4_now_45 rfl ?_
      refine j_aload_n dX4_now_46 rfl ?_
      by_cases hcs : (pNum T n (pNum T n (we T n (sk T n a)) 0 (m - 1)).2.2 1 99).1 = 0
      · skip
        refine j_callVi (r_cost1 h5n hsb hn4 hat9 hcs) dX4_now_47 pmX4_cost q649 q651 qs8 j_set_self rfl rfl rfl ⟨Nat.le_of_ble_eq_true rfl, Nat.le_of_ble_eq_true rfl⟩ ⟨Nat.le_of_ble_eq_true rfl, Nat.le_of_ble_eq_true rfl⟩ rfl (Nat.le_of_ble_eq_true rfl) ?_
        rw [pC_ok hcs]
        refine j_callIv (c_iNow (nk + 220) (r1 202) (nI (pNum T n (pNum T n (we T n (sk T n a)) 0 (m - 1)).2.2 1 99).2.1) (nI (wK T n (sk T n a) - 4)) (nI (pNum T n (we T n (sk T n a)) 0 (m - 1)).2.1) (by rw [j_set_ne (by omega)]; exact j_set_self)) dX4_now_50 pmX11_init q709 q710 rfl rfl ⟨Nat.le_of_ble_eq_true rfl, Nat.le_of_ble_eq_true rfl⟩ ⟨Nat.le_of_ble_eq_true rfl, Nat.le_of_ble_eq_true rfl⟩ rfl (Nat.le_of_ble_eq_true rfl) ?_
        refine j_aret dX4_now_53 rfl (Or.inl ⟨_, rfl⟩) (Or.inr ⟨_, rfl⟩) (Nat.le_of_ble_eq_true rfl) (Nat.le_of_ble_eq_true rfl) ?_
        refine q_kt.good (f' := sk T n (pNum T n (we T n (sk T n a)) 0 (m - 1)).2.2) ?_ ?_ (fun i hi hi2 => ⟨?_, fun hi3 => ?_⟩)
        · exact (show j_set _ (nk + 220) _ (nk + 220) = _ from j_set_self).trans (by rw [(hfr 202 (Or.inl (by decide))).1]; rfl)
        · refine (show j_set _ (nk + 220) _ 200 = _ from (j_set_ne (by omega)).trans j_set_self).trans ?_
          rw [hr2 5 (by omega), hr2 201 (by omega)]
          rw [(hfr 5 (by unfold kpI; omega)).1, (hfr 201 (by unfold kpI; omega)).1]
        · rw [hr2 i hi2]; exact (hfr i hi).1
        · exact (show j_set _ (nk + 220) _ i = _ from j_set_ne hi2).trans ((j_set_ne hi3).trans ((j_set_ne hi2).trans ((hfr i hi).2 hi3)))
      · skip
        rw [pC_no hcs]
        have hno := hcs
        refine j_callVT (s_cost0 h5n hsb hn4 hat9 hcs h240n) q_T.isT rfl dX4_now_47 pmX4_cost q649 q651 qs8 j_set_self rfl rfl rfl ⟨(Nat.le_of_ble_eq_true rfl), (Nat.le_of_ble_eq_true rfl)⟩ ⟨(Nat.le_of_ble_eq_true rfl), (Nat.le_of_ble_eq_true rfl)⟩ rfl (Nat.le_of_ble_eq_true rfl) (Nat.le_of_ble_eq_true rfl) (Nat.le_of_ble_eq_true rfl) ?_
        intro v9 r9 h9 nx9 hq9
        exact q_kt.bad hno (hq9.up rfl rfl (fun i hi => ⟨(hr2 i (by omega)).trans (hfr i (by unfold kpI; omega)).1, (by rw [j_set_ne (by omega), j_set_ne (by omega)]; exact (hfr i (by unfold kpI; omega)).2 (by omega))⟩))
    · skip
      rw [pNm_0 okn]
      have hno := okn
      refine j_callVT (s_num0 h5 hsb hn4 hwl 0 (m - 1) (by decide) (by have := hD.le; omega) okn h240) q_T.isT rfl dX4_now_29 pmX4_number q541 q543 qs4 j_set_self rfl rfl rfl ⟨(Nat.le_of_ble_eq_true rfl), (Nat.le_of_ble_eq_true rfl)⟩ ⟨(Nat.le_of_ble_eq_true rfl), (Nat.le_of_ble_eq_true rfl)⟩ rfl (Nat.le_of_ble_eq_true rfl) (Nat.le_of_ble_eq_true rfl) (Nat.le_of_ble_eq_true rfl) ?_
      intro v9 r9 h9 nx9 hq9
      exact q_kt.bad hno (hq9.up rfl rfl (fun i hi => ⟨(hfr i (by unfold kpI; omega)).1, (by rw [j_set_ne (by omega)]; exact (hfr i (by unfold kpI; omega)).2 (by omega))⟩))
  · skip
    rw [if_neg hwk]
    have hno : ¬ (1 : Nat) = 0 := by decide
    refine j_callVT (r_sign0 h213 h214 hg hwb (sk T n a) hwk h240) q_T.isT rfl dX4_now_11 pmX4_sign q703 q705 qs10 h200 rfl rfl rfl ⟨(Nat.le_of_ble_eq_true rfl), (Nat.le_of_ble_eq_true rfl)⟩ ⟨(Nat.le_of_ble_eq_true rfl), (Nat.le_of_ble_eq_true rfl)⟩ rfl (Nat.le_of_ble_eq_true rfl) (Nat.le_of_ble_eq_true rfl) (Nat.le_of_ble_eq_true rfl) ?_
    intro v9 r9 h9 nx9 hq9
    exact q_kt.bad hno (hq9.up rfl rfl (fun i hi => ⟨(hfr i (by unfold kpI; omega)).1, (by exact (hfr i (by unfold kpI; omega)).2 (by omega))⟩))
