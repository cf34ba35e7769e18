set_option maxRecDepth 100000
/-- the scratch ids' cells are let go -/
def scD (h : j_H) : j_H := fun i => if 210 ≤ i ∧ i < 220 then none else h i
theorem scD_F {h : j_H} : scF (scD h) := fun i h1 h2 => if_pos ⟨h1, h2⟩
theorem scD_k {h : j_H} {i : Nat} (hi : kpI i) : scD h i = h i := if_neg (by unfold kpI at hi; omega)
theorem scD_le {h : j_H} {i : Nat} {e : va_E} (hi : scD h i = some e) : h i = some e := by
  unfold scD at hi
  split at hi
  · cases hi
  · exact hi
set_option maxHeartbeats 4000000 in
theorem r_key4 {l : Launch} {D : va_G} {dT : Nat → ClassId} {H0 : Heap} {r : Nat → Nat} {h : j_H} {nx : Nat} {dTx : Nat → Int32} {T : Nat → Nat} {n a fr kd bs fg m nk : Nat} (h5 : h 5 = some (txC dT dTx)) (hsb : sbR dTx n T) (hn4 : n ≤ 400) (ha : a ≤ n) (h200 : h 200 = some (rdC (r 5) n (r 201) a fr)) (h201 : h 201 = some (rcell (.ref (r 202)) (r 203) nk)) (h202 : h 202 = some (dcell kd bs fg m)) (hD : okD kd bs m) (hnk : nk ≤ 8) (hk : h (nk + 220) = none) (h240 : h 240 = none) {q w : Nat} {g : Nat → Int32} (h213 : h 213 = some (strC (r 214))) (h214 : h 214 = some (byC dT w g)) (hg : ∀ j, j < w → g j = nI (T (q + j)) ∧ T (q + j) < 128) (b : Nat) (hx : wIx (wrd T q w) = 4) : MC (gG l D dT H0) yX4_key cX4_key 7 (some (.object "FewKeys$Key")) 8 12 1620 [.ref (r 200), .ref (r 213), .int (nI b)] r h nx (q_kt (pKc T n bs m 4 a) n nk r h) := by
  have hwr : wrd T q w = jLw 4 := by rw [jLw_is (by decide) (by decide)]; exact (wIx_is ⟨by decide, by decide⟩).mp hx
  have hlen : w = 6 := (wrd_eq.mp hwr).1
  have hhs : hsF g w = (-1274639644) := by rw [hsF_eq w (fun j hj => (hg j hj).1), hwr]; decide
  have hne : ¬ hsF g w = 0 := by rw [hhs]; decide
  have hw : w < 2 ^ 30 := by omega
  have hbs : 2 ≤ bs ∧ bs ≤ 10 := ⟨hD.2.1, hD.2.2.1⟩
  rw [pKc4]
  refine MC.ofJ [some (.ref (r 200)), some (.ref (r 213)), some (.int (nI b)), none, none, none, none] rfl (Nat.le_of_ble_eq_true rfl) (by decide) ?_
  refine j_aload_n dX4_key_0 rfl ?_
  refine j_astore_n dX4_key_1 (by decide) rfl ?_
  refine j_iconst (v := (-1)) dX4_key_2 (by decide) ?_
  refine j_istore dX4_key_3 (by decide) rfl ?_
  refine j_aload_n dX4_key_5 rfl ?_
  refine j_callVi (b_hash h213 h214 (by omega) (by omega) hne) dX4_key_6 pmJ2_hashCode q590 q591 q592 h213 rfl rfl rfl ⟨Nat.le_of_ble_eq_true rfl, Nat.le_of_ble_eq_true rfl⟩ ⟨Nat.le_of_ble_eq_true rfl, Nat.le_of_ble_eq_true rfl⟩ rfl (Nat.le_of_ble_eq_true rfl) ?_
  have hf1 : ∀ i, i ≠ 213 → j_set h 213 (strH (r 214) (hsF g w)) i = h i := fun i hi => j_set_ne hi
  have h213 : j_set h 213 (strH (r 214) (hsF g w)) 213 = some (strH (r 214) (hsF g w)) := j_set_self
  generalize j_set h 213 (strH (r 214) (hsF g w)) = h1 at hf1 h213 ⊢
  have hfr : ∀ i, kpI i → r i = r i ∧ (i ≠ 200 → h1 i = h i) := fun i hi => ⟨rfl, fun _ => hf1 i (by unfold kpI at hi; omega)⟩
  have h5 := (hf1 5 (by decide)).trans h5
  have h200 := (hf1 200 (by decide)).trans h200
  have h201 := (hf1 201 (by decide)).trans h201
  have h202 := (hf1 202 (by decide)).trans h202
  have h214 := (hf1 214 (by decide)).trans h214
  have h240 := (hf1 240 (by decide)).trans h240
  have hk := (hf1 (nk + 220) (by omega)).trans hk
  refine j_look (tgt := 60) dX4_key_9 (by decide) (by rw [hhs]) (by decide) ?_
  refine j_aload_n dX4_key_60 rfl ?_
  refine j_ldcS dX4_key_61 (fun _ hs => (hs.2.2.2.1 4 (by decide) (by decide)).2.2.2.2) ?_
  refine j_callVi (b_eq 4 h213 h214 hg hw (by decide) (by decide)) dX4_key_63 pmJ2_equals q461 q462 q463 h213 rfl rfl rfl ⟨Nat.le_of_ble_eq_true rfl, Nat.le_of_ble_eq_true rfl⟩ ⟨Nat.le_of_ble_eq_true rfl, Nat.le_of_ble_eq_true rfl⟩ rfl (Nat.le_of_ble_eq_true rfl) ?_
  refine j_ifb_eq (tgt := 132) dX4_key_66 (by decide) (fun c66 => absurd hx c66) (fun c66 => ?_)
  refine j_iconst (v := 0) dX4_key_69 (by decide) ?_
  refine j_istore dX4_key_70 (by decide) rfl ?_
  refine j_goto (tgt := 132) dX4_key_72 (by decide) ?_
  refine j_iload dX4_key_132 rfl ?_
  refine j_tabI (tgt := 168) dX4_key_134 (by decide) (by decide) rfl (by decide) ?_
  refine j_re rfl rfl (h' := (j_set h1 200 (rdC (r 5) n (r 201) a fr))) (j_set_id h200).symm ?_
  refine j_aload_n dX4_key_168 rfl ?_
  by_cases ok1 : (pNum T n a 0 (bs - 1)).1 = 0
  · skip
    refine j_callVi (r_fig1 h5 hsb hn4 ha h201 h202 hbs ok1) dX4_key_169 pmX4_figure q643 q645 qs7 j_set_self rfl rfl rfl ⟨Nat.le_of_ble_eq_true rfl, Nat.le_of_ble_eq_true rfl⟩ ⟨Nat.le_of_ble_eq_true rfl, Nat.le_of_ble_eq_true rfl⟩ rfl (Nat.le_of_ble_eq_true rfl) ?_
    rw [pNm_1 ok1]
    refine j_istore dX4_key_172 (by decide) rfl ?_
    obtain ⟨r2, hr2, q2⟩ : ∃ r2 : Nat → Nat, (∀ i, i ≠ nk + 220 → r2 i = r i) ∧ r2 (nk + 220) = nx := ⟨va_up r (nk + 220) nx, fun i hi => va_up_ne _ _ hi, va_up_self _ _ _⟩
    refine j_sc (r' := r2) (fun i e hi => hr2 i (fun z => by rw [z, j_set_ne (by omega), hk] at hi; cases hi)) ?_
    refine j_re (L' := [some (.ref (r2 200)), some (.ref (r 213)), some (.int (nI b)), some (.ref (r 213)), some (.int 0), some (.int (nI (pNum T n a 0 (bs - 1)).2.1)), none]) (h' := (j_set h1 200 (rdC (r2 5) n (r2 201) (pNum T n a 0 (bs - 1)).2.2 (sk T n a)))) (by rw [hr2 200 (by omega)]; first | done | rfl) rfl (by rw [hr2 5 (by omega), hr2 201 (by omega)]) ?_
    refine j_new (ci := 8) (fs := [.null, .int 0, .int 0]) (nk + 220) q2 dX4_key_174 in_X8 tyX8_ok rfl q647 q648 q81 (fun j hj => by
      have hj3 : j = 0 ∨ j = 1 ∨ j = 2 := by have hj4 : j < 3 := hj; omega
      rcases hj3 with rfl | rfl | rfl <;> rfl) (Nat.le_of_ble_eq_true rfl) (Nat.le_of_ble_eq_true rfl) ?_
    refine j_re rfl rfl (h' := (j_set (j_set h1 (nk + 220) (.inr (8, [.null, .int 0, .int 0]))) 200 (rdC (r2 5) n (r2 201) (pNum T n a 0 (bs - 1)).2.2 (sk T n a)))) (j_set_comm _ _ _ (by omega)) ?_
    have hat9 : (pNum T n a 0 (bs - 1)).2.2 ≤ n := (pNum_pos ha ok1).2.2.1
    have h5n : (j_set h1 (nk + 220) (.inr (8, [.null, .int 0, .int 0]))) 5 = some (txC dT dTx) := by rw [j_set_ne (by omega)]; exact h5
    have h240n : (j_set h1 (nk + 220) (.inr (8, [.null, .int 0, .int 0]))) 240 = none := by rw [j_set_ne (by omega)]; exact h240
    refine j_dup dX4_key_177 rfl ?_
    refine j_aload_n dX4_key_178 rfl ?_
    refine j_get 2 dX4_key_179 j_set_self in_X4 rfl (by decide) q240 rfl ?_
    refine j_getN 0 dX4_key_182 (by rw [j_set_ne (by decide), j_set_ne (by omega)]; exact h201) in_X1 rfl (by decide) (fun _ hs => hs.1 _ qn105) rfl ?_
    refine j_iload dX4_key_185 rfl ?_
    refine j_aload_n dX4_key_187 rfl ?_
    by_cases hcs : (pNum T n (pNum T n a 0 (bs - 1)).2.2 1 99).1 = 0
    · skip
      refine j_callVi (r_cost1 h5n hsb hn4 hat9 hcs) dX4_key_188 pmX4_cost q649 q651 qs8 j_set_self rfl rfl rfl ⟨Nat.le_of_ble_eq_true rfl, Nat.le_of_ble_eq_true rfl⟩ ⟨Nat.le_of_ble_eq_true rfl, Nat.le_of_ble_eq_true rfl⟩ rfl (Nat.le_of_ble_eq_true rfl) ?_
      rw [pC_ok hcs]
      refine j_callIv (c_iFigure (nk + 220) (r 202) (nI (pNum T n (pNum T n a 0 (bs - 1)).2.2 1 99).2.1) (nI (pNum T n a 0 (bs - 1)).2.1) (by rw [j_set_ne (by omega)]; exact j_set_self)) dX4_key_191 pmX8_init q653 q654 rfl rfl ⟨Nat.le_of_ble_eq_true rfl, Nat.le_of_ble_eq_true rfl⟩ ⟨Nat.le_of_ble_eq_true rfl, Nat.le_of_ble_eq_true rfl⟩ rfl (Nat.le_of_ble_eq_true rfl) ?_
      refine j_aret dX4_key_194 rfl (Or.inl ⟨_, rfl⟩) (Or.inr ⟨_, rfl⟩) (Nat.le_of_ble_eq_true rfl) (Nat.le_of_ble_eq_true rfl) ?_
      refine q_kt.good (f' := sk T n (pNum T n a 0 (bs - 1)).2.2) ?_ ?_ (fun i hi hi2 => ⟨?_, fun hi3 => ?_⟩)
      · exact (show j_set _ (nk + 220) _ (nk + 220) = _ from j_set_self).trans (by rfl)
      · refine (show j_set _ (nk + 220) _ 200 = _ from (j_set_ne (by omega)).trans j_set_self).trans ?_
        rw [hr2 5 (by omega), hr2 201 (by omega)]
      · rw [hr2 i hi2]
      · exact (show j_set _ (nk + 220) _ i = _ from j_set_ne hi2).trans ((j_set_ne hi3).trans ((j_set_ne hi2).trans ((hfr i hi).2 hi3)))
    · skip
      rw [pC_no hcs]
      have hno := hcs
      refine j_callVT (s_cost0 h5n hsb hn4 hat9 hcs h240n) q_T.isT rfl dX4_key_188 pmX4_cost q649 q651 qs8 j_set_self rfl rfl rfl ⟨(Nat.le_of_ble_eq_true rfl), (Nat.le_of_ble_eq_true rfl)⟩ ⟨(Nat.le_of_ble_eq_true rfl), (Nat.le_of_ble_eq_true rfl)⟩ rfl (Nat.le_of_ble_eq_true rfl) (Nat.le_of_ble_eq_true rfl) (Nat.le_of_ble_eq_true rfl) ?_
      intro v9 r9 h9 nx9 hq9
      exact q_kt.bad hno (hq9.up rfl rfl (fun i hi => ⟨(hr2 i (by omega)).trans rfl, (by rw [j_set_ne (by omega), j_set_ne (by omega)]; exact (hfr i (by unfold kpI; omega)).2 (by omega))⟩))
  · skip
    rw [pNm_0 ok1]
    have hno := ok1
    refine j_callVT (r_fig0 h5 hsb hn4 ha h201 h202 hbs ok1 h240) q_T.isT rfl dX4_key_169 pmX4_figure q643 q645 qs7 j_set_self rfl rfl rfl ⟨(Nat.le_of_ble_eq_true rfl), (Nat.le_of_ble_eq_true rfl)⟩ ⟨(Nat.le_of_ble_eq_true rfl), (Nat.le_of_ble_eq_true rfl)⟩ rfl (Nat.le_of_ble_eq_true rfl) (Nat.le_of_ble_eq_true rfl) (Nat.le_of_ble_eq_true rfl) ?_
    intro v9 r9 h9 nx9 hq9
    exact q_kt.bad hno (hq9.up rfl rfl (fun i hi => ⟨(hfr i (by unfold kpI; omega)).1, (by rw [j_set_ne (by omega)]; exact (hfr i (by unfold kpI; omega)).2 (by omega))⟩))
set_option maxHeartbeats 4000000 in
theorem r_key8 {l : Launch} {D : va_G} {dT : Nat → ClassId} {H0 : Heap} {r : Nat → Nat} {h : j_H} {nx : Nat} {dTx : Nat → Int32} {T : Nat → Nat} {n a fr kd bs fg m nk : Nat} (h5 : h 5 = some (txC dT dTx)) (hsb : sbR dTx n T) (hn4 : n ≤ 400) (ha : a ≤ n) (h200 : h 200 = some (rdC (r 5) n (r 201) a fr)) (h201 : h 201 = some (rcell (.ref (r 202)) (r 203) nk)) (h202 : h 202 = some (dcell kd bs fg m)) (hD : okD kd bs m) (hnk : nk ≤ 8) (hk : h (nk + 220) = none) (h240 : h 240 = none) {q w : Nat} {g : Nat → Int32} (h213 : h 213 = some (strC (r 214))) (h214 : h 214 = some (byC dT w g)) (hg : ∀ j, j < w → g j = nI (T (q + j)) ∧ T (q + j) < 128) (b : Nat) (hx : wIx (wrd T q w) = 8) : MC (gG l D dT H0) yX4_key cX4_key 7 (some (.object "FewKeys$Key")) 8 12 1620 [.ref (r 200), .ref (r 213), .int (nI b)] r h nx (q_kt (pKc T n bs m 8 a) n nk r h) := by
  have hwr : wrd T q w = jLw 8 := by rw [jLw_is (by decide) (by decide)]; exact (wIx_is ⟨by decide, by decide⟩).mp hx
  have hlen : w = 2 := (wrd_eq.mp hwr).1
  have hhs : hsF g w = 3370 := by rw [hsF_eq w (fun j hj => (hg j hj).1), hwr]; decide
  have hne : ¬ hsF g w = 0 := by rw [hhs]; decide
  have hw : w < 2 ^ 30 := by omega
  have hbs : 2 ≤ bs ∧ bs ≤ 10 := ⟨hD.2.1, hD.2.2.1⟩
  rw [pKcE (by decide) (by decide) (by decide)]
  refine MC.ofJ [some (.ref (r 200)), some (.ref (r 213)), some (.int (nI b)), none, none, none, none] rfl (Nat.le_of_ble_eq_true rfl) (by decide) ?_
  refine j_aload_n dX4_key_0 rfl ?_
  refine j_astore_n dX4_key_1 (by decide) rfl ?_
  refine j_iconst (v := (-1)) dX4_key_2 (by decide) ?_
  refine j_istore dX4_key_3 (by decide) rfl ?_
  refine j_aload_n dX4_key_5 rfl ?_
  refine j_callVi (b_hash h213 h214 (by omega) (by omega) hne) dX4_key_6 pmJ2_hashCode q590 q591 q592 h213 rfl rfl rfl ⟨Nat.le_of_ble_eq_true rfl, Nat.le_of_ble_eq_true rfl⟩ ⟨Nat.le_of_ble_eq_true rfl, Nat.le_of_ble_eq_true rfl⟩ rfl (Nat.le_of_ble_eq_true rfl) ?_
  have hf1 : ∀ i, i ≠ 213 → j_set h 213 (strH (r 214) (hsF g w)) i = h i := fun i hi => j_set_ne hi
  have h213 : j_set h 213 (strH (r 214) (hsF g w)) 213 = some (strH (r 214) (hsF g w)) := j_set_self
  generalize j_set h 213 (strH (r 214) (hsF g w)) = h1 at hf1 h213 ⊢
  have hfr : ∀ i, kpI i → r i = r i ∧ (i ≠ 200 → h1 i = h i) := fun i hi => ⟨rfl, fun _ => hf1 i (by unfold kpI at hi; omega)⟩
  have h5 := (hf1 5 (by decide)).trans h5
  have h200 := (hf1 200 (by decide)).trans h200
  have h201 := (hf1 201 (by decide)).trans h201
  have h202 := (hf1 202 (by decide)).trans h202
  have h214 := (hf1 214 (by decide)).trans h214
  have h240 := (hf1 240 (by decide)).trans h240
  have hk := (hf1 (nk + 220) (by omega)).trans hk
  refine j_look (tgt := 75) dX4_key_9 (by decide) (by rw [hhs]) (by decide) ?_
  refine j_aload_n dX4_key_75 rfl ?_
  refine j_ldcS dX4_key_76 (fun _ hs => (hs.2.2.2.1 8 (by decide) (by decide)).2.2.2.2) ?_
  refine j_callVi (b_eq 8 h213 h214 hg hw (by decide) (by decide)) dX4_key_78 pmJ2_equals q461 q462 q463 h213 rfl rfl rfl ⟨Nat.le_of_ble_eq_true rfl, Nat.le_of_ble_eq_true rfl⟩ ⟨Nat.le_of_ble_eq_true rfl, Nat.le_of_ble_eq_true rfl⟩ rfl (Nat.le_of_ble_eq_true rfl) ?_
  refine j_ifb_eq (tgt := 132) dX4_key_81 (by decide) (fun c81 => absurd hx c81) (fun c81 => ?_)
  refine j_iconst (v := 1) dX4_key_84 (by decide) ?_
  refine j_istore dX4_key_85 (by decide) rfl ?_
  refine j_goto (tgt := 132) dX4_key_87 (by decide) ?_
  refine j_iload dX4_key_132 rfl ?_
  refine j_tabI (tgt := 195) dX4_key_134 (by decide) (by decide) rfl (by decide) ?_
  refine j_re rfl rfl (h' := (j_set h1 200 (rdC (r 5) n (r 201) a fr))) (j_set_id h200).symm ?_
  obtain ⟨r2, hr2, q2⟩ : ∃ r2 : Nat → Nat, (∀ i, i ≠ nk + 220 → r2 i = r i) ∧ r2 (nk + 220) = nx := ⟨va_up r (nk + 220) nx, fun i hi => va_up_ne _ _ hi, va_up_self _ _ _⟩
  refine j_sc (r' := r2) (fun i e hi => hr2 i (fun z => by rw [z, j_set_ne (by omega), hk] at hi; cases hi)) ?_
  refine j_re (L' := [some (.ref (r2 200)), some (.ref (r 213)), some (.int (nI b)), some (.ref (r 213)), some (.int 1), none, none]) (h' := (j_set h1 200 (rdC (r2 5) n (r2 201) a fr))) (by rw [hr2 200 (by omega)]; first | done | rfl) rfl (by rw [hr2 5 (by omega), hr2 201 (by omega)]) ?_
  refine j_new (ci := 9) (fs := [.null, .int 0]) (nk + 220) q2 dX4_key_195 in_X9 tyX9_ok rfl q681 q682 q82 (fun j hj => by
    have hj3 : j = 0 ∨ j = 1 := by have hj4 : j < 2 := hj; omega
    rcases hj3 with rfl | rfl <;> rfl) (Nat.le_of_ble_eq_true rfl) (Nat.le_of_ble_eq_true rfl) ?_
  refine j_re rfl rfl (h' := (j_set (j_set h1 (nk + 220) (.inr (9, [.null, .int 0]))) 200 (rdC (r2 5) n (r2 201) a fr))) (j_set_comm _ _ _ (by omega)) ?_
  have hat9 : a ≤ n := ha
  have h5n : (j_set h1 (nk + 220) (.inr (9, [.null, .int 0]))) 5 = some (txC dT dTx) := by rw [j_set_ne (by omega)]; exact h5
  have h240n : (j_set h1 (nk + 220) (.inr (9, [.null, .int 0]))) 240 = none := by rw [j_set_ne (by omega)]; exact h240
  refine j_dup dX4_key_198 rfl ?_
  refine j_aload_n dX4_key_199 rfl ?_
  refine j_get 2 dX4_key_200 j_set_self in_X4 rfl (by decide) q240 rfl ?_
  refine j_getN 0 dX4_key_203 (by rw [j_set_ne (by decide), j_set_ne (by omega)]; exact h201) in_X1 rfl (by decide) (fun _ hs => hs.1 _ qn105) rfl ?_
  refine j_aload_n dX4_key_206 rfl ?_
  by_cases hcs : (pNum T n a 1 99).1 = 0
  · skip
    refine j_callVi (r_cost1 h5n hsb hn4 hat9 hcs) dX4_key_207 pmX4_cost q649 q651 qs8 j_set_self rfl rfl rfl ⟨Nat.le_of_ble_eq_true rfl, Nat.le_of_ble_eq_true rfl⟩ ⟨Nat.le_of_ble_eq_true rfl, Nat.le_of_ble_eq_true rfl⟩ rfl (Nat.le_of_ble_eq_true rfl) ?_
    rw [pC_ok hcs]
    refine j_callIv (c_iIs (nk + 220) (r 202) (nI (pNum T n a 1 99).2.1) (by rw [j_set_ne (by omega)]; exact j_set_self)) dX4_key_210 pmX9_init q683 q684 rfl rfl ⟨Nat.le_of_ble_eq_true rfl, Nat.le_of_ble_eq_true rfl⟩ ⟨Nat.le_of_ble_eq_true rfl, Nat.le_of_ble_eq_true rfl⟩ rfl (Nat.le_of_ble_eq_true rfl) ?_
    refine j_aret dX4_key_213 rfl (Or.inl ⟨_, rfl⟩) (Or.inr ⟨_, rfl⟩) (Nat.le_of_ble_eq_true rfl) (Nat.le_of_ble_eq_true rfl) ?_
    refine q_kt.good (f' := sk T n a) ?_ ?_ (fun i hi hi2 => ⟨?_, fun hi3 => ?_⟩)
    · exact (show j_set _ (nk + 220) _ (nk + 220) = _ from j_set_self).trans (by rfl)
    · refine (show j_set _ (nk + 220) _ 200 = _ from (j_set_ne (by omega)).trans j_set_self).trans ?_
      rw [hr2 5 (by omega), hr2 201 (by omega)]
    · rw [hr2 i hi2]
    · exact (show j_set _ (nk + 220) _ i = _ from j_set_ne hi2).trans ((j_set_ne hi3).trans ((j_set_ne hi2).trans ((hfr i hi).2 hi3)))
  · skip
    rw [pC_no hcs]
    have hno := hcs
    refine j_callVT (s_cost0 h5n hsb hn4 hat9 hcs h240n) q_T.isT rfl dX4_key_207 pmX4_cost q649 q651 qs8 j_set_self rfl rfl rfl ⟨(Nat.le_of_ble_eq_true rfl), (Nat.le_of_ble_eq_true rfl)⟩ ⟨(Nat.le_of_ble_eq_true rfl), (Nat.le_of_ble_eq_true rfl)⟩ rfl (Nat.le_of_ble_eq_true rfl) (Nat.le_of_ble_eq_true rfl) (Nat.le_of_ble_eq_true rfl) ?_
    intro v9 r9 h9 nx9 hq9
    exact q_kt.bad hno (hq9.up rfl rfl (fun i hi => ⟨(hr2 i (by omega)).trans rfl, (by rw [j_set_ne (by omega), j_set_ne (by omega)]; exact (hfr i (by unfold kpI; omega)).2 (by omega))⟩))
set_option maxHeartbeats 4000000 in
theorem r_key9 {l : Launch} {D : va_G} {dT : Nat → ClassId} {H0 : Heap} {r : Nat → Nat} {h : j_H} {nx : Nat} {dTx : Nat → Int32} {T : Nat → Nat} {n a fr kd bs fg m nk : Nat} (h5 : h 5 = some (txC dT dTx)) (hsb : sbR dTx n T) (hn4 : n ≤ 400) (ha : a ≤ n) (h200 : h 200 = some (rdC (r 5) n (r 201) a fr)) (h201 : h 201 = some (rcell (.ref (r 202)) (r 203) nk)) (h202 : h 202 = some (dcell kd bs fg m)) (hD : okD kd bs m) (hnk : nk ≤ 8) (hk : h (nk + 220) = none) (h240 : h 240 = none) {q w : Nat} {g : Nat → Int32} (h213 : h 213 = some (strC (r 214))) (h214 : h 214 = some (byC dT w g)) (hg : ∀ j, j < w → g j = nI (T (q + j)) ∧ T (q + j) < 128) (b : Nat) (hx : wIx (wrd T q w) = 9) : MC (gG l D dT H0) yX4_key cX4_key 7 (some (.object "FewKeys$Key")) 8 12 1620 [.ref (r 200), .ref (r 213), .int (nI b)] r h nx (q_kt (pKc T n bs m 9 a) n nk r h) := by
  have hwr : wrd T q w = jLw 9 := by rw [jLw_is (by decide) (by decide)]; exact (wIx_is ⟨by decide, by decide⟩).mp hx
  have hlen : w = 5 := (wrd_eq.mp hwr).1
  have hhs : hsF g w = 94746189 := by rw [hsF_eq w (fun j hj => (hg j hj).1), hwr]; decide
  have hne : ¬ hsF g w = 0 := by rw [hhs]; decide
  have hw : w < 2 ^ 30 := by omega
  have hbs : 2 ≤ bs ∧ bs ≤ 10 := ⟨hD.2.1, hD.2.2.1⟩
  rw [pKcE (by decide) (by decide) (by decide)]
  refine MC.ofJ [some (.ref (r 200)), some (.ref (r 213)), some (.int (nI b)), none, none, none, none] rfl (Nat.le_of_ble_eq_true rfl) (by decide) ?_
  refine j_aload_n dX4_key_0 rfl ?_
  refine j_astore_n dX4_key_1 (by decide) rfl ?_
  refine j_iconst (v := (-1)) dX4_key_2 (by decide) ?_
  refine j_istore dX4_key_3 (by decide) rfl ?_
  refine j_aload_n dX4_key_5 rfl ?_
  refine j_callVi (b_hash h213 h214 (by omega) (by omega) hne) dX4_key_6 pmJ2_hashCode q590 q591 q592 h213 rfl rfl rfl ⟨Nat.le_of_ble_eq_true rfl, Nat.le_of_ble_eq_true rfl⟩ ⟨Nat.le_of_ble_eq_true rfl, Nat.le_of_ble_eq_true rfl⟩ rfl (Nat.le_of_ble_eq_true rfl) ?_
  have hf1 : ∀ i, i ≠ 213 → j_set h 213 (strH (r 214) (hsF g w)) i = h i := fun i hi => j_set_ne hi
  have h213 : j_set h 213 (strH (r 214) (hsF g w)) 213 = some (strH (r 214) (hsF g w)) := j_set_self
  generalize j_set h 213 (strH (r 214) (hsF g w)) = h1 at hf1 h213 ⊢
  have hfr : ∀ i, kpI i → r i = r i ∧ (i ≠ 200 → h1 i = h i) := fun i hi => ⟨rfl, fun _ => hf1 i (by unfold kpI at hi; omega)⟩
  have h5 := (hf1 5 (by decide)).trans h5
  have h200 := (hf1 200 (by decide)).trans h200
  have h201 := (hf1 201 (by decide)).trans h201
  have h202 := (hf1 202 (by decide)).trans h202
  have h214 := (hf1 214 (by decide)).trans h214
  have h240 := (hf1 240 (by decide)).trans h240
  have hk := (hf1 (nk + 220) (by omega)).trans hk
  refine j_look (tgt := 90) dX4_key_9 (by decide) (by rw [hhs]) (by decide) ?_
  refine j_aload_n dX4_key_90 rfl ?_
  refine j_ldcS dX4_key_91 (fun _ hs => (hs.2.2.2.1 9 (by decide) (by decide)).2.2.2.2) ?_
  refine j_callVi (b_eq 9 h213 h214 hg hw (by decide) (by decide)) dX4_key_93 pmJ2_equals q461 q462 q463 h213 rfl rfl rfl ⟨Nat.le_of_ble_eq_true rfl, Nat.le_of_ble_eq_true rfl⟩ ⟨Nat.le_of_ble_eq_true rfl, Nat.le_of_ble_eq_true rfl⟩ rfl (Nat.le_of_ble_eq_true rfl) ?_
  refine j_ifb_eq (tgt := 132) dX4_key_96 (by decide) (fun c96 => absurd hx c96) (fun c96 => ?_)
  refine j_iconst (v := 2) dX4_key_99 (by decide) ?_
  refine j_istore dX4_key_100 (by decide) rfl ?_
  refine j_goto (tgt := 132) dX4_key_102 (by decide) ?_
  refine j_iload dX4_key_132 rfl ?_
  refine j_tabI (tgt := 214) dX4_key_134 (by decide) (by decide) rfl (by decide) ?_
  refine j_re rfl rfl (h' := (j_set h1 200 (rdC (r 5) n (r 201) a fr))) (j_set_id h200).symm ?_
  obtain ⟨r2, hr2, q2⟩ : ∃ r2 : Nat → Nat, (∀ i, i ≠ nk + 220 → r2 i = r i) ∧ r2 (nk + 220) = nx := ⟨va_up r (nk + 220) nx, fun i hi => va_up_ne _ _ hi, va_up_self _ _ _⟩
  refine j_sc (r' := r2) (fun i e hi => hr2 i (fun z => by rw [z, j_set_ne (by omega), hk] at hi; cases hi)) ?_
  refine j_re (L' := [some (.ref (r2 200)), some (.ref (r 213)), some (.int (nI b)), some (.ref (r 213)), some (.int 2), none, none]) (h' := (j_set h1 200 (rdC (r2 5) n (r2 201) a fr))) (by rw [hr2 200 (by omega)]; first | done | rfl) rfl (by rw [hr2 5 (by omega), hr2 201 (by omega)]) ?_
  refine j_new (ci := 10) (fs := [.null, .int 0]) (nk + 220) q2 dX4_key_214 in_X10 tyX10_ok rfl q690 q691 q83 (fun j hj => by
    have hj3 : j = 0 ∨ j = 1 := by have hj4 : j < 2 := hj; omega
    rcases hj3 with rfl | rfl <;> rfl) (Nat.le_of_ble_eq_true rfl) (Nat.le_of_ble_eq_true rfl) ?_
  refine j_re rfl rfl (h' := (j_set (j_set h1 (nk + 220) (.inr (10, [.null, .int 0]))) 200 (rdC (r2 5) n (r2 201) a fr))) (j_set_comm _ _ _ (by omega)) ?_
  have hat9 : a ≤ n := ha
  have h5n : (j_set h1 (nk + 220) (.inr (10, [.null, .int 0]))) 5 = some (txC dT dTx) := by rw [j_set_ne (by omega)]; exact h5
  have h240n : (j_set h1 (nk + 220) (.inr (10, [.null, .int 0]))) 240 = none := by rw [j_set_ne (by omega)]; exact h240
  refine j_dup dX4_key_217 rfl ?_
  refine j_aload_n dX4_key_218 rfl ?_
  refine j_get 2 dX4_key_219 j_set_self in_X4 rfl (by decide) q240 rfl ?_
  refine j_getN 0 dX4_key_222 (by rw [j_set_ne (by decide), j_set_ne (by omega)]; exact h201) in_X1 rfl (by decide) (fun _ hs => hs.1 _ qn105) rfl ?_
  refine j_aload_n dX4_key_225 rfl ?_
  by_cases hcs : (pNum T n a 1 99).1 = 0
  · skip
    refine j_callVi (r_cost1 h5n hsb hn4 hat9 hcs) dX4_key_226 pmX4_cost q649 q651 qs8 j_set_self rfl rfl rfl ⟨Nat.le_of_ble_eq_true rfl, Nat.le_of_ble_eq_true rfl⟩ ⟨Nat.le_of_ble_eq_true rfl, Nat.le_of_ble_eq_true rfl⟩ rfl (Nat.le_of_ble_eq_true rfl) ?_
    rw [pC_ok hcs]
    refine j_callIv (c_iClear (nk + 220) (r 202) (nI (pNum T n a 1 99).2.1) (by rw [j_set_ne (by omega)]; exact j_set_self)) dX4_key_229 pmX10_init q692 q693 rfl rfl ⟨Nat.le_of_ble_eq_true rfl, Nat.le_of_ble_eq_true rfl⟩ ⟨Nat.le_of_ble_eq_true rfl, Nat.le_of_ble_eq_true rfl⟩ rfl (Nat.le_of_ble_eq_true rfl) ?_
    refine j_aret dX4_key_232 rfl (Or.inl ⟨_, rfl⟩) (Or.inr ⟨_, rfl⟩) (Nat.le_of_ble_eq_true rfl) (Nat.le_of_ble_eq_true rfl) ?_
    refine q_kt.good (f' := sk T n a) ?_ ?_ (fun i hi hi2 => ⟨?_, fun hi3 => ?_⟩)
    · exact (show j_set _ (nk + 220) _ (nk + 220) = _ from j_set_self).trans (by rfl)
    · refine (show j_set _ (nk + 220) _ 200 = _ from (j_set_ne (by omega)).trans j_set_self).trans ?_
      rw [hr2 5 (by omega), hr2 201 (by omega)]
    · rw [hr2 i hi2]
    · exact (show j_set _ (nk + 220) _ i = _ from j_set_ne hi2).trans ((j_set_ne hi3).trans ((j_set_ne hi2).trans ((hfr i hi).2 hi3)))
  · skip
    rw [pC_no hcs]
    have hno := hcs
    refine j_callVT (s_cost0 h5n hsb hn4 hat9 hcs h240n) q_T.isT rfl dX4_key_226 pmX4_cost q649 q651 qs8 j_set_self rfl rfl rfl ⟨(Nat.le_of_ble_eq_true rfl), (Nat.le_of_ble_eq_true rfl)⟩ ⟨(Nat.le_of_ble_eq_true rfl), (Nat.le_of_ble_eq_true rfl)⟩ rfl (Nat.le_of_ble_eq_true rfl) (Nat.le_of_ble_eq_true rfl) (Nat.le_of_ble_eq_true rfl) ?_
    intro v9 r9 h9 nx9 hq9
    exact q_kt.bad hno (hq9.up rfl rfl (fun i hi => ⟨(hr2 i (by omega)).trans rfl, (by rw [j_set_ne (by omega), j_set_ne (by omega)]; exact (hfr i (by unfold kpI; omega)).2 (by omega))⟩))
set_option maxHeartbeats 4000000 in
theorem r_key5 {l : Launch} {D : va_G} {dT : Nat → ClassId} {H0 : Heap} {r : Nat → Nat} {h : j_H} {nx : Nat} {dTx : Nat → Int32} {T : Nat → Nat} {n a fr kd bs fg m nk : Nat} (h5 : h 5 = some (txC dT dTx)) (hsb : sbR dTx n T) (hn4 : n ≤ 400) (ha : a ≤ n) (h200 : h 200 = some (rdC (r 5) n (r 201) a fr)) (h201 : h 201 = some (rcell (.ref (r 202)) (r 203) nk)) (h202 : h 202 = some (dcell kd bs fg m)) (hD : okD kd bs m) (hnk : nk ≤ 8) (hk : h (nk + 220) = none) (h240 : h 240 = none) {q w : Nat} {g : Nat → Int32} (h213 : h 213 = some (strC (r 214))) (h214 : h 214 = some (byC dT w g)) (hg : ∀ j, j < w → g j = nI (T (q + j)) ∧ T (q + j) < 128) (b : Nat) (hx : wIx (wrd T q w) = 5) : MC (gG l D dT H0) yX4_key cX4_key 7 (some (.object "FewKeys$Key")) 8 12 1620 [.ref (r 200), .ref (r 213), .int (nI b)] r h nx (q_kt (pKc T n bs m 5 a) n nk r h) := by
  have hwr : wrd T q w = jLw 5 := by rw [jLw_is (by decide) (by decide)]; exact (wIx_is ⟨by decide, by decide⟩).mp hx
  have hlen : w = 4 := (wrd_eq.mp hwr).1
  have hhs : hsF g w = 3444122 := by rw [hsF_eq w (fun j hj => (hg j hj).1), hwr]; decide
  have hne : ¬ hsF g w = 0 := by rw [hhs]; decide
  have hw : w < 2 ^ 30 := by omega
  have hbs : 2 ≤ bs ∧ bs ≤ 10 := ⟨hD.2.1, hD.2.2.1⟩
  rw [pKcE (by decide) (by decide) (by decide)]
  refine MC.ofJ [some (.ref (r 200)), some (.ref (r 213)), some (.int (nI b)), none, none, none, none] rfl (Nat.le_of_ble_eq_true rfl) (by decide) ?_
  refine j_aload_n dX4_key_0 rfl ?_
  refine j_astore_n dX4_key_1 (by decide) rfl ?_
  refine j_iconst (v := (-1)) dX4_key_2 (by decide) ?_
  refine j_istore dX4_key_3 (by decide) rfl ?_
  refine j_aload_n dX4_key_5 rfl ?_
  refine j_callVi (b_hash h213 h214 (by omega) (by omega) hne) dX4_key_6 pmJ2_hashCode q590 q591 q592 h213 rfl rfl rfl ⟨Nat.le_of_ble_eq_true rfl, Nat.le_of_ble_eq_true rfl⟩ ⟨Nat.le_of_ble_eq_true rfl, Nat.le_of_ble_eq_true rfl⟩ rfl (Nat.le_of_ble_eq_true rfl) ?_
  have hf1 : ∀ i, i ≠ 213 → j_set h 213 (strH (r 214) (hsF g w)) i = h i := fun i hi => j_set_ne hi
  have h213 : j_set h 213 (strH (r 214) (hsF g w)) 213 = some (strH (r 214) (hsF g w)) := j_set_self
  generalize j_set h 213 (strH (r 214) (hsF g w)) = h1 at hf1 h213 ⊢
  have hfr : ∀ i, kpI i → r i = r i ∧ (i ≠ 200 → h1 i = h i) := fun i hi => ⟨rfl, fun _ => hf1 i (by unfold kpI at hi; omega)⟩
  have h5 := (hf1 5 (by decide)).trans h5
  have h200 := (hf1 200 (by decide)).trans h200
  have h201 := (hf1 201 (by decide)).trans h201
  have h202 := (hf1 202 (by decide)).trans h202
  have h214 := (hf1 214 (by decide)).trans h214
  have h240 := (hf1 240 (by decide)).trans h240
  have hk := (hf1 (nk + 220) (by omega)).trans hk
  refine j_look (tgt := 132) dX4_key_9 (by decide) (by rw [hhs]) (by decide) ?_
  refine j_iload dX4_key_132 rfl ?_
  refine j_tabO (tgt := 243) dX4_key_134 (Or.inl (by decide)) (by decide) ?_
  refine j_aload_n dX4_key_243 rfl ?_
  refine j_aload_n dX4_key_244 rfl ?_
  refine j_iload_n dX4_key_245 rfl ?_
  refine j_callVi (r_sign1 h213 h214 hg hw b (by omega)) dX4_key_246 pmX4_sign q703 q705 qs10 h200 rfl rfl rfl ⟨Nat.le_of_ble_eq_true rfl, Nat.le_of_ble_eq_true rfl⟩ ⟨Nat.le_of_ble_eq_true rfl, Nat.le_of_ble_eq_true rfl⟩ rfl (Nat.le_of_ble_eq_true rfl) ?_
  refine j_eqi (show _ = nI (5 - 4) by rw [hx]) ?_
  refine j_re rfl rfl (h' := (j_set h1 200 (rdC (r 5) n (r 201) a fr))) (j_set_id h200).symm ?_
  refine j_istore dX4_key_249 (by decide) rfl ?_
  obtain ⟨r2, hr2, q2⟩ : ∃ r2 : Nat → Nat, (∀ i, i ≠ nk + 220 → r2 i = r i) ∧ r2 (nk + 220) = nx := ⟨va_up r (nk + 220) nx, fun i hi => va_up_ne _ _ hi, va_up_self _ _ _⟩
  refine j_sc (r' := r2) (fun i e hi => hr2 i (fun z => by rw [z, j_set_ne (by omega), hk] at hi; cases hi)) ?_
  refine j_re (L' := [some (.ref (r2 200)), some (.ref (r 213)), some (.int (nI b)), some (.ref (r 213)), some (.int (-1)), none, some (.int (nI (5 - 4)))]) (h' := (j_set h1 200 (rdC (r2 5) n (r2 201) a fr))) (by rw [hr2 200 (by omega)]; first | done | rfl) rfl (by rw [hr2 5 (by omega), hr2 201 (by omega)]) ?_
  refine j_new (ci := 13) (fs := [.null, .int 0, .int 0]) (nk + 220) q2 dX4_key_251 in_X13 tyX13_ok rfl q739 q740 q86 (fun j hj => by
    have hj3 : j = 0 ∨ j = 1 ∨ j = 2 := by have hj4 : j < 3 := hj; omega
    rcases hj3 with rfl | rfl | rfl <;> rfl) (Nat.le_of_ble_eq_true rfl) (Nat.le_of_ble_eq_true rfl) ?_
  refine j_re rfl rfl (h' := (j_set (j_set h1 (nk + 220) (.inr (13, [.null, .int 0, .int 0]))) 200 (rdC (r2 5) n (r2 201) a fr))) (j_set_comm _ _ _ (by omega)) ?_
  have hat9 : a ≤ n := ha
  have h5n : (j_set h1 (nk + 220) (.inr (13, [.null, .int 0, .int 0]))) 5 = some (txC dT dTx) := by rw [j_set_ne (by omega)]; exact h5
  have h240n : (j_set h1 (nk + 220) (.inr (13, [.null, .int 0, .int 0]))) 240 = none := by rw [j_set_ne (by omega)]; exact h240
  refine j_dup dX4_key_254 rfl ?_
  refine j_aload_n dX4_key_255 rfl ?_
  refine j_get 2 dX4_key_256 j_set_self in_X4 rfl (by decide) q240 rfl ?_
  refine j_getN 0 dX4_key_259 (by rw [j_set_ne (by decide), j_set_ne (by omega)]; exact h201) in_X1 rfl (by decide) (fun _ hs => hs.1 _ qn105) rfl ?_
  refine j_iload dX4_key_262 rfl ?_
  refine j_aload_n dX4_key_264 rfl ?_
  by_cases hcs : (pNum T n a 1 99).1 = 0
  · skip
    refine j_callVi (r_cost1 h5n hsb hn4 hat9 hcs) dX4_key_265 pmX4_cost q649 q651 qs8 j_set_self rfl rfl rfl ⟨Nat.le_of_ble_eq_true rfl, Nat.le_of_ble_eq_true rfl⟩ ⟨Nat.le_of_ble_eq_true rfl, Nat.le_of_ble_eq_true rfl⟩ rfl (Nat.le_of_ble_eq_true rfl) ?_
    rw [pC_ok hcs]
    refine j_callIv (c_iSign (nk + 220) (r 202) (nI (pNum T n a 1 99).2.1) (nI (5 - 4)) (by rw [j_set_ne (by omega)]; exact j_set_self)) dX4_key_268 pmX13_init q741 q742 rfl rfl ⟨Nat.le_of_ble_eq_true rfl, Nat.le_of_ble_eq_true rfl⟩ ⟨Nat.le_of_ble_eq_true rfl, Nat.le_of_ble_eq_true rfl⟩ rfl (Nat.le_of_ble_eq_true rfl) ?_
    refine j_aret dX4_key_271 rfl (Or.inl ⟨_, rfl⟩) (Or.inr ⟨_, rfl⟩) (Nat.le_of_ble_eq_true rfl) (Nat.le_of_ble_eq_true rfl) ?_
    refine q_kt.good (f' := sk T n a) ?_ ?_ (fun i hi hi2 => ⟨?_, fun hi3 => ?_⟩)
    · exact (show j_set _ (nk + 220) _ (nk + 220) = _ from j_set_self).trans (by rfl)
    · refine (show j_set _ (nk + 220) _ 200 = _ from (j_set_ne (by omega)).trans j_set_self).trans ?_
      rw [hr2 5 (by omega), hr2 201 (by omega)]
    · rw [hr2 i hi2]
    · exact (show j_set _ (nk + 220) _ i = _ from j_set_ne hi2).trans ((j_set_ne hi3).trans ((j_set_ne hi2).trans ((hfr i hi).2 hi3)))
  · skip
    rw [pC_no hcs]
    have hno := hcs
    refine j_callVT (s_cost0 h5n hsb hn4 hat9 hcs h240n) q_T.isT rfl dX4_key_265 pmX4_cost q649 q651 qs8 j_set_self rfl rfl rfl ⟨(Nat.le_of_ble_eq_true rfl), (Nat.le_of_ble_eq_true rfl)⟩ ⟨(Nat.le_of_ble_eq_true rfl), (Nat.le_of_ble_eq_true rfl)⟩ rfl (Nat.le_of_ble_eq_true rfl) (Nat.le_of_ble_eq_true rfl) (Nat.le_of_ble_eq_true rfl) ?_
    intro v9 r9 h9 nx9 hq9
    exact q_kt.bad hno (hq9.up rfl rfl (fun i hi => ⟨(hr2 i (by omega)).trans rfl, (by rw [j_set_ne (by omega), j_set_ne (by omega)]; exact (hfr i (by unfold kpI; omega)).2 (by omega))⟩))
set_option maxHeartbeats 4000000 in
theorem r_key6 {l : Launch} {D : va_G} {dT : Nat → ClassId} {H0 : Heap} {r : Nat → Nat} {h : j_H} {nx : Nat} {dTx : Nat → Int32} {T : Nat → Nat} {n a fr kd bs fg m nk : Nat} (h5 : h 5 = some (txC dT dTx)) (hsb : sbR dTx n T) (hn4 : n ≤ 400) (ha : a ≤ n) (h200 : h 200 = some (rdC (r 5) n (r 201) a fr)) (h201 : h 201 = some (rcell (.ref (r 202)) (r 203) nk)) (h202 : h 202 = some (dcell kd bs fg m)) (hD : okD kd bs m) (hnk : nk ≤ 8) (hk : h (nk + 220) = none) (h240 : h 240 = none) {q w : Nat} {g : Nat → Int32} (h213 : h 213 = some (strC (r 214))) (h214 : h 214 = some (byC dT w g)) (hg : ∀ j, j < w → g j = nI (T (q + j)) ∧ T (q + j) < 128) (b : Nat) (hx : wIx (wrd T q w) = 6) : MC (gG l D dT H0) yX4_key cX4_key 7 (some (.object "FewKeys$Key")) 8 12 1620 [.ref (r 200), .ref (r 213), .int (nI b)] r h nx (q_kt (pKc T n bs m 6 a) n nk r h) := by
  have hwr : wrd T q w = jLw 6 := by rw [jLw_is (by decide) (by decide)]; exact (wIx_is ⟨by decide, by decide⟩).mp hx
  have hlen : w = 4 := (wrd_eq.mp hwr).1
  have hhs : hsF g w = 3318169 := by rw [hsF_eq w (fun j hj => (hg j hj).1), hwr]; decide
  have hne : ¬ hsF g w = 0 := by rw [hhs]; decide
  have hw : w < 2 ^ 30 := by omega
  have hbs : 2 ≤ bs ∧ bs ≤ 10 := ⟨hD.2.1, hD.2.2.1⟩
  rw [pKcE (by decide) (by decide) (by decide)]
  refine MC.ofJ [some (.ref (r 200)), some (.ref (r 213)), some (.int (nI b)), none, none, none, none] rfl (Nat.le_of_ble_eq_true rfl) (by decide) ?_
  refine j_aload_n dX4_key_0 rfl ?_
  refine j_astore_n dX4_key_1 (by decide) rfl ?_
  refine j_iconst (v := (-1)) dX4_key_2 (by decide) ?_
  refine j_istore dX4_key_3 (by decide) rfl ?_
  refine j_aload_n dX4_key_5 rfl ?_
  refine j_callVi (b_hash h213 h214 (by omega) (by omega) hne) dX4_key_6 pmJ2_hashCode q590 q591 q592 h213 rfl rfl rfl ⟨Nat.le_of_ble_eq_true rfl, Nat.le_of_ble_eq_true rfl⟩ ⟨Nat.le_of_ble_eq_true rfl, Nat.le_of_ble_eq_true rfl⟩ rfl (Nat.le_of_ble_eq_true rfl) ?_
  have hf1 : ∀ i, i ≠ 213 → j_set h 213 (strH (r 214) (hsF g w)) i = h i := fun i hi => j_set_ne hi
  have h213 : j_set h 213 (strH (r 214) (hsF g w)) 213 = some (strH (r 214) (hsF g w)) := j_set_self
  generalize j_set h 213 (strH (r 214) (hsF g w)) = h1 at hf1 h213 ⊢
  have hfr : ∀ i, kpI i → r i = r i ∧ (i ≠ 200 → h1 i = h i) := fun i hi => ⟨rfl, fun _ => hf1 i (by unfold kpI at hi; omega)⟩
  have h5 := (hf1 5 (by decide)).trans h5
  have h200 := (hf1 200 (by decide)).trans h200
  have h201 := (hf1 201 (by decide)).trans h201
  have h202 := (hf1 202 (by decide)).trans h202
  have h214 := (hf1 214 (by decide)).trans h214
  have h240 := (hf1 240 (by decide)).trans h240
  have hk := (hf1 (nk + 220) (by omega)).trans hk
  refine j_look (tgt := 132) dX4_key_9 (by decide) (by rw [hhs]) (by decide) ?_
  refine j_iload dX4_key_132 rfl ?_
  refine j_tabO (tgt := 243) dX4_key_134 (Or.inl (by decide)) (by decide) ?_
  refine j_aload_n dX4_key_243 rfl ?_
  refine j_aload_n dX4_key_244 rfl ?_
  refine j_iload_n dX4_key_245 rfl ?_
  refine j_callVi (r_sign1 h213 h214 hg hw b (by omega)) dX4_key_246 pmX4_sign q703 q705 qs10 h200 rfl rfl rfl ⟨Nat.le_of_ble_eq_true rfl, Nat.le_of_ble_eq_true rfl⟩ ⟨Nat.le_of_ble_eq_true rfl, Nat.le_of_ble_eq_true rfl⟩ rfl (Nat.le_of_ble_eq_true rfl) ?_
  refine j_eqi (show _ = nI (6 - 4) by rw [hx]) ?_
  refine j_re rfl rfl (h' := (j_set h1 200 (rdC (r 5) n (r 201) a fr))) (j_set_id h200).symm ?_
  refine j_istore dX4_key_249 (by decide) rfl ?_
  obtain ⟨r2, hr2, q2⟩ : ∃ r2 : Nat → Nat, (∀ i, i ≠ nk + 220 → r2 i = r i) ∧ r2 (nk + 220) = nx := ⟨va_up r (nk + 220) nx, fun i hi => va_up_ne _ _ hi, va_up_self _ _ _⟩
  refine j_sc (r' := r2) (fun i e hi => hr2 i (fun z => by rw [z, j_set_ne (by omega), hk] at hi; cases hi)) ?_
  refine j_re (L' := [some (.ref (r2 200)), some (.ref (r 213)), some (.int (nI b)), some (.ref (r 213)), some (.int (-1)), none, some (.int (nI (6 - 4)))]) (h' := (j_set h1 200 (rdC (r2 5) n (r2 201) a fr))) (by rw [hr2 200 (by omega)]; first | done | rfl) rfl (by rw [hr2 5 (by omega), hr2 201 (by omega)]) ?_
  refine j_new (ci := 13) (fs := [.null, .int 0, .int 0]) (nk + 220) q2 dX4_key_251 in_X13 tyX13_ok rfl q739 q740 q86 (fun j hj => by
    have hj3 : j = 0 ∨ j = 1 ∨ j = 2 := by have hj4 : j < 3 := hj; omega
    rcases hj3 with rfl | rfl | rfl <;> rfl) (Nat.le_of_ble_eq_true rfl) (Nat.le_of_ble_eq_true rfl) ?_
  refine j_re rfl rfl (h' := (j_set (j_set h1 (nk + 220) (.inr (13, [.null, .int 0, .int 0]))) 200 (rdC (r2 5) n (r2 201) a fr))) (j_set_comm _ _ _ (by omega)) ?_
  have hat9 : a ≤ n := ha
  have h5n : (j_set h1 (nk + 220) (.inr (13, [.null, .int 0, .int 0]))) 5 = some (txC dT dTx) := by rw [j_set_ne (by omega)]; exact h5
  have h240n : (j_set h1 (nk + 220) (.inr (13, [.null, .int 0, .int 0]))) 240 = none := by rw [j_set_ne (by omega)]; exact h240
  refine j_dup dX4_key_254 rfl ?_
  refine j_aload_n dX4_key_255 rfl ?_
  refine j_get 2 dX4_key_256 j_set_self in_X4 rfl (by decide) q240 rfl ?_
  refine j_getN 0 dX4_key_259 (by rw [j_set_ne (by decide), j_set_ne (by omega)]; exact h201) in_X1 rfl (by decide) (fun _ hs => hs.1 _ qn105) rfl ?_
  refine j_iload dX4_key_262 rfl ?_
  refine j_aload_n dX4_key_264 rfl ?_
  by_cases hcs : (pNum T n a 1 99).1 = 0
  · skip
    refine j_callVi (r_cost1 h5n hsb hn4 hat9 hcs) dX4_key_265 pmX4_cost q649 q651 qs8 j_set_self rfl rfl rfl ⟨Nat.le_of_ble_eq_true rfl, Nat.le_of_ble_eq_true rfl⟩ ⟨Nat.le_of_ble_eq_true rfl, Nat.le_of_ble_eq_true rfl⟩ rfl (Nat.le_of_ble_eq_true rfl) ?_
    rw [pC_ok hcs]
    refine j_callIv (c_iSign (nk + 220) (r 202) (nI (pNum T n a 1 99).2.1) (nI (6 - 4)) (by rw [j_set_ne (by omega)]; exact j_set_self)) dX4_key_268 pmX13_init q741 q742 rfl rfl ⟨Nat.le_of_ble_eq_true rfl, Nat.le_of_ble_eq_true rfl⟩ ⟨Nat.le_of_ble_eq_true rfl, Nat.le_of_ble_eq_true rfl⟩ rfl (Nat.le_of_ble_eq_true rfl) ?_
    refine j_aret dX4_key_271 rfl (Or.inl ⟨_, rfl⟩) (Or.inr ⟨_, rfl⟩) (Nat.le_of_ble_eq_true rfl) (Nat.le_of_ble_eq_true rfl) ?_
    refine q_kt.good (f' := sk T n a) ?_ ?_ (fun i hi hi2 => ⟨?_, fun hi3 => ?_⟩)
    · exact (show j_set _ (nk + 220) _ (nk + 220) = _ from j_set_self).trans (by rfl)
    · refine (show j_set _ (nk + 220) _ 200 = _ from (j_set_ne (by omega)).trans j_set_self).trans ?_
      rw [hr2 5 (by omega), hr2 201 (by omega)]
    · rw [hr2 i hi2]
    · exact (show j_set _ (nk + 220) _ i = _ from j_set_ne hi2).trans ((j_set_ne hi3).trans ((j_set_ne hi2).trans ((hfr i hi).2 hi3)))
  · skip
    rw [pC_no hcs]
    have hno := hcs
    refine j_callVT (s_cost0 h5n hsb hn4 hat9 hcs h240n) q_T.isT rfl dX4_key_265 pmX4_cost q649 q651 qs8 j_set_self rfl rfl rfl ⟨(Nat.le_of_ble_eq_true rfl), (Nat.le_of_ble_eq_true rfl)⟩ ⟨(Nat.le_of_ble_eq_true rfl), (Nat.le_of_ble_eq_true rfl)⟩ rfl (Nat.le_of_ble_eq_true rfl) (Nat.le_of_ble_eq_true rfl) (Nat.le_of_ble_eq_true rfl) ?_
    intro v9 r9 h9 nx9 hq9
    exact q_kt.bad hno (hq9.up rfl rfl (fun i hi => ⟨(hr2 i (by omega)).trans rfl, (by rw [j_set_ne (by omega), j_set_ne (by omega)]; exact (hfr i (by unfold kpI; omega)).2 (by omega))⟩))
set_option maxHeartbeats 4000000 in
theorem r_key7 {l : Launch} {D : va_G} {dT : Nat → ClassId} {H0 : Heap} {r : Nat → Nat} {h : j_H} {nx : Nat} {dTx : Nat → Int32} {T : Nat → Nat} {n a fr kd bs fg m nk : Nat} (h5 : h 5 = some (txC dT dTx)) (hsb : sbR dTx n T) (hn4 : n ≤ 400) (ha : a ≤ n) (h200 : h 200 = some (rdC (r 5) n (r 201) a fr)) (h201 : h 201 = some (rcell (.ref (r 202)) (r 203) nk)) (h202 : h 202 = some (dcell kd bs fg m)) (hD : okD kd bs m) (hnk : nk ≤ 8) (hk : h (nk + 220) = none) (h240 : h 240 = none) {q w : Nat} {g : Nat → Int32} (h213 : h 213 = some (strC (r 214))) (h214 : h 214 = some (byC dT w g)) (hg : ∀ j, j < w → g j = nI (T (q + j)) ∧ T (q + j) < 128) (b : Nat) (hx : wIx (wrd T q w) = 7) : MC (gG l D dT H0) yX4_key cX4_key 7 (some (.object "FewKeys$Key")) 8 12 1620 [.ref (r 200), .ref (r 213), .int (nI b)] r h nx (q_kt (pKc T n bs m 7 a) n nk r h) := by
  have hwr : wrd T q w = jLw 7 := by rw [jLw_is (by decide) (by decide)]; exact (wIx_is ⟨by decide, by decide⟩).mp hx
  have hlen : w = 5 := (wrd_eq.mp hwr).1
  have hhs : hsF g w = 110364486 := by rw [hsF_eq w (fun j hj => (hg j hj).1), hwr]; decide
  have hne : ¬ hsF g w = 0 := by rw [hhs]; decide
  have hw : w < 2 ^ 30 := by omega
  have hbs : 2 ≤ bs ∧ bs ≤ 10 := ⟨hD.2.1, hD.2.2.1⟩
  rw [pKcE (by decide) (by decide) (by decide)]
  refine MC.ofJ [some (.ref (r 200)), some (.ref (r 213)), some (.int (nI b)), none, none, none, none] rfl (Nat.le_of_ble_eq_true rfl) (by decide) ?_
  refine j_aload_n dX4_key_0 rfl ?_
  refine j_astore_n dX4_key_1 (by decide) rfl ?_
  refine j_iconst (v := (-1)) dX4_key_2 (by decide) ?_
  refine j_istore dX4_key_3 (by decide) rfl ?_
  refine j_aload_n dX4_key_5 rfl ?_
  refine j_callVi (b_hash h213 h214 (by omega) (by omega) hne) dX4_key_6 pmJ2_hashCode q590 q591 q592 h213 rfl rfl rfl ⟨Nat.le_of_ble_eq_true rfl, Nat.le_of_ble_eq_true rfl⟩ ⟨Nat.le_of_ble_eq_true rfl, Nat.le_of_ble_eq_true rfl⟩ rfl (Nat.le_of_ble_eq_true rfl) ?_
  have hf1 : ∀ i, i ≠ 213 → j_set h 213 (strH (r 214) (hsF g w)) i = h i := fun i hi => j_set_ne hi
  have h213 : j_set h 213 (strH (r 214) (hsF g w)) 213 = some (strH (r 214) (hsF g w)) := j_set_self
  generalize j_set h 213 (strH (r 214) (hsF g w)) = h1 at hf1 h213 ⊢
  have hfr : ∀ i, kpI i → r i = r i ∧ (i ≠ 200 → h1 i = h i) := fun i hi => ⟨rfl, fun _ => hf1 i (by unfold kpI at hi; omega)⟩
  have h5 := (hf1 5 (by decide)).trans h5
  have h200 := (hf1 200 (by decide)).trans h200
  have h201 := (hf1 201 (by decide)).trans h201
  have h202 := (hf1 202 (by decide)).trans h202
  have h214 := (hf1 214 (by decide)).trans h214
  have h240 := (hf1 240 (by decide)).trans h240
  have hk := (hf1 (nk + 220) (by omega)).trans hk
  refine j_look (tgt := 132) dX4_key_9 (by decide) (by rw [hhs]) (by decide) ?_
  refine j_iload dX4_key_132 rfl ?_
  refine j_tabO (tgt := 243) dX4_key_134 (Or.inl (by decide)) (by decide) ?_
  refine j_aload_n dX4_key_243 rfl ?_
  refine j_aload_n dX4_key_244 rfl ?_
  refine j_iload_n dX4_key_245 rfl ?_
  refine j_callVi (r_sign1 h213 h214 hg hw b (by omega)) dX4_key_246 pmX4_sign q703 q705 qs10 h200 rfl rfl rfl ⟨Nat.le_of_ble_eq_true rfl, Nat.le_of_ble_eq_true rfl⟩ ⟨Nat.le_of_ble_eq_true rfl, Nat.le_of_ble_eq_true rfl⟩ rfl (Nat.le_of_ble_eq_true rfl) ?_
  refine j_eqi (show _ = nI (7 - 4) by rw [hx]) ?_
  refine j_re rfl rfl (h' := (j_set h1 200 (rdC (r 5) n (r 201) a fr))) (j_set_id h200).symm ?_
  refine j_istore dX4_key_249 (by decide) rfl ?_
  obtain ⟨r2, hr2, q2⟩ : ∃ r2 : Nat → Nat, (∀ i, i ≠ nk + 220 → r2 i = r i) ∧ r2 (nk + 220) = nx := ⟨va_up r (nk + 220) nx, fun i hi => va_up_ne _ _ hi, va_up_self _ _ _⟩
  refine j_sc (r' := r2) (fun i e hi => hr2 i (fun z => by rw [z, j_set_ne (by omega), hk] at hi; cases hi)) ?_
  refine j_re (L' := [some (.ref (r2 200)), some (.ref (r 213)), some (.int (nI b)), some (.ref (r 213)), some (.int (-1)), none, some (.int (nI (7 - 4)))]) (h' := (j_set h1 200 (rdC (r2 5) n (r2 201) a fr))) (by rw [hr2 200 (by omega)]; first | done | rfl) rfl (by rw [hr2 5 (by omega), hr2 201 (by omega)]) ?_
  refine j_new (ci := 13) (fs := [.null, .int 0, .int 0]) (nk + 220) q2 dX4_key_251 in_X13 tyX13_ok rfl q739 q740 q86 (fun j hj => by
    have hj3 : j = 0 ∨ j = 1 ∨ j = 2 := by have hj4 : j < 3 := hj; omega
    rcases hj3 with rfl | rfl | rfl <;> rfl) (Nat.le_of_ble_eq_true rfl) (Nat.le_of_ble_eq_true rfl) ?_
  refine j_re rfl rfl (h' := (j_set (j_set h1 (nk + 220) (.inr (13, [.null, .int 0, .int 0]))) 200 (rdC (r2 5) n (r2 201) a fr))) (j_set_comm _ _ _ (by omega)) ?_
  have hat9 : a ≤ n := ha
  have h5n : (j_set h1 (nk + 220) (.inr (13, [.null, .int 0, .int 0]))) 5 = some (txC dT dTx) := by rw [j_set_ne (by omega)]; exact h5
  have h240n : (j_set h1 (nk + 220) (.inr (13, [.null, .int 0, .int 0]))) 240 = none := by rw [j_set_ne (by omega)]; exact h240
  refine j_dup dX4_key_254 rfl ?_
  refine j_aload_n dX4_key_255 rfl ?_
  refine j_get 2 dX4_key_256 j_set_self in_X4 rfl (by decide) q240 rfl ?_
  refine j_getN 0 dX4_key_259 (by rw [j_set_ne (by decide), j_set_ne (by omega)]; exact h201) in_X1 rfl (by decide) (fun _ hs => hs.1 _ qn105) rfl ?_
  refine j_iload dX4_key_262 rfl ?_
  refine j_aload_n dX4_key_264 rfl ?_
  by_cases hcs : (pNum T n a 1 99).1 = 0
  · skip
    refine j_callVi (r_cost1 h5n hsb hn4 hat9 hcs) dX4_key_265 pmX4_cost q649 q651 qs8 j_set_self rfl rfl rfl ⟨Nat.le_of_ble_eq_true rfl, Nat.le_of_ble_eq_true rfl⟩ ⟨Nat.le_of_ble_eq_true rfl, Nat.le_of_ble_eq_true rfl⟩ rfl (Nat.le_of_ble_eq_true rfl) ?_
    rw [pC_ok hcs]
    refine j_callIv (c_iSign (nk + 220) (r 202) (nI (pNum T n a 1 99).2.1) (nI (7 - 4)) (by rw [j_set_ne (by omega)]; exact j_set_self)) dX4_key_268 pmX13_init q741 q742 rfl rfl ⟨Nat.le_of_ble_eq_true rfl, Nat.le_of_ble_eq_true rfl⟩ ⟨Nat.le_of_ble_eq_true rfl, Nat.le_of_ble_eq_true rfl⟩ rfl (Nat.le_of_ble_eq_true rfl) ?_
    refine j_aret dX4_key_271 rfl (Or.inl ⟨_, rfl⟩) (Or.inr ⟨_, rfl⟩) (Nat.le_of_ble_eq_true rfl) (Nat.le_of_ble_eq_true rfl) ?_
    refine q_kt.good (f' := sk T n a) ?_ ?_ (fun i hi hi2 => ⟨?_, fun hi3 => ?_⟩)
    · exact (show j_set _ (nk + 220) _ (nk + 220) = _ from j_set_self).trans (by rfl)
    · refine (show j_set _ (nk + 220) _ 200 = _ from (j_set_ne (by omega)).trans j_set_self).trans ?_
      rw [hr2 5 (by omega), hr2 201 (by omega)]
    · rw [hr2 i hi2]
    · exact (show j_set _ (nk + 220) _ i = _ from j_set_ne hi2).trans ((j_set_ne hi3).trans ((j_set_ne hi2).trans ((hfr i hi).2 hi3)))
  · skip
    rw [pC_no hcs]
    have hno := hcs
    refine j_callVT (s_cost0 h5n hsb hn4 hat9 hcs h240n) q_T.isT rfl dX4_key_265 pmX4_cost q649 q651 qs8 j_set_self rfl rfl rfl ⟨(Nat.le_of_ble_eq_true rfl), (Nat.le_of_ble_eq_true rfl)⟩ ⟨(Nat.le_of_ble_eq_true rfl), (Nat.le_of_ble_eq_true rfl)⟩ rfl (Nat.le_of_ble_eq_true rfl) (Nat.le_of_ble_eq_true rfl) (Nat.le_of_ble_eq_true rfl) ?_
    intro v9 r9 h9 nx9 hq9
    exact q_kt.bad hno (hq9.up rfl rfl (fun i hi => ⟨(hr2 i (by omega)).trans rfl, (by rw [j_set_ne (by omega), j_set_ne (by omega)]; exact (hfr i (by unfold kpI; omega)).2 (by omega))⟩))
set_option maxHeartbeats 4000000 in
theorem r_key10 {l : Launch} {D : va_G} {dT : Nat → ClassId} {H0 : Heap} {r : Nat → Nat} {h : j_H} {nx : Nat} {dTx : Nat → Int32} {T : Nat → Nat} {n a fr kd bs fg m nk : Nat} (h5 : h 5 = some (txC dT dTx)) (hsb : sbR dTx n T) (hn4 : n ≤ 400) (ha : a ≤ n) (h200 : h 200 = some (rdC (r 5) n (r 201) a fr)) (h201 : h 201 = some (rcell (.ref (r 202)) (r 203) nk)) (h202 : h 202 = some (dcell kd bs fg m)) (hD : okD kd bs m) (hnk : nk ≤ 8) (hk : h (nk + 220) = none) (h240 : h 240 = none) {q w : Nat} {g : Nat → Int32} (h213 : h 213 = some (strC (r 214))) (h214 : h 214 = some (byC dT w g)) (hg : ∀ j, j < w → g j = nI (T (q + j)) ∧ T (q + j) < 128) (b : Nat) (hx : wIx (wrd T q w) = 10) : MC (gG l D dT H0) yX4_key cX4_key 7 (some (.object "FewKeys$Key")) 8 12 1620 [.ref (r 200), .ref (r 213), .int (nI b)] r h nx (q_kt (pKc T n bs m 10 a) n nk r h) := by
  have hwr : wrd T q w = jLw 10 := by rw [jLw_is (by decide) (by decide)]; exact (wIx_is ⟨by decide, by decide⟩).mp hx
  have hlen : w = 3 := (wrd_eq.mp hwr).1
  have hhs : hsF g w = 109270 := by rw [hsF_eq w (fun j hj => (hg j hj).1), hwr]; decide
  have hne : ¬ hsF g w = 0 := by rw [hhs]; decide
  have hw : w < 2 ^ 30 := by omega
  have hbs : 2 ≤ bs ∧ bs ≤ 10 := ⟨hD.2.1, hD.2.2.1⟩
  refine MC.ofJ [some (.ref (r 200)), some (.ref (r 213)), some (.int (nI b)), none, none, none, none] rfl (Nat.le_of_ble_eq_true rfl) (by decide) ?_
  refine j_aload_n dX4_key_0 rfl ?_
  refine j_astore_n dX4_key_1 (by decide) rfl ?_
  refine j_iconst (v := (-1)) dX4_key_2 (by decide) ?_
  refine j_istore dX4_key_3 (by decide) rfl ?_
  refine j_aload_n dX4_key_5 rfl ?_
  refine j_callVi (b_hash h213 h214 (by omega) (by omega) hne) dX4_key_6 pmJ2_hashCode q590 q591 q592 h213 rfl rfl rfl ⟨Nat.le_of_ble_eq_true rfl, Nat.le_of_ble_eq_true rfl⟩ ⟨Nat.le_of_ble_eq_true rfl, Nat.le_of_ble_eq_true rfl⟩ rfl (Nat.le_of_ble_eq_true rfl) ?_
  have hf1 : ∀ i, i ≠ 213 → j_set h 213 (strH (r 214) (hsF g w)) i = h i := fun i hi => j_set_ne hi
  have h213 : j_set h 213 (strH (r 214) (hsF g w)) 213 = some (strH (r 214) (hsF g w)) := j_set_self
  generalize j_set h 213 (strH (r 214) (hsF g w)) = h1 at hf1 h213 ⊢
  have hfr : ∀ i, kpI i → r i = r i ∧ (i ≠ 200 → h1 i = h i) := fun i hi => ⟨rfl, fun _ => hf1 i (by unfold kpI at hi; omega)⟩
  have h5 := (hf1 5 (by decide)).trans h5
  have h200 := (hf1 200 (by decide)).trans h200
  have h201 := (hf1 201 (by decide)).trans h201
  have h202 := (hf1 202 (by decide)).trans h202
  have h214 := (hf1 214 (by decide)).trans h214
  have h240 := (hf1 240 (by decide)).trans h240
  have hk := (hf1 (nk + 220) (by omega)).trans hk
  refine j_look (tgt := 105) dX4_key_9 (by decide) (by rw [hhs]) (by decide) ?_
  refine j_aload_n dX4_key_105 rfl ?_
  refine j_ldcS dX4_key_106 (fun _ hs => (hs.2.2.2.1 10 (by decide) (by decide)).2.2.2.2) ?_
  refine j_callVi (b_eq 10 h213 h214 hg hw (by decide) (by decide)) dX4_key_108 pmJ2_equals q461 q462 q463 h213 rfl rfl rfl ⟨Nat.le_of_ble_eq_true rfl, Nat.le_of_ble_eq_true rfl⟩ ⟨Nat.le_of_ble_eq_true rfl, Nat.le_of_ble_eq_true rfl⟩ rfl (Nat.le_of_ble_eq_true rfl) ?_
  refine j_ifb_eq (tgt := 132) dX4_key_111 (by decide) (fun c111 => absurd hx c111) (fun c111 => ?_)
  refine j_iconst (v := 3) dX4_key_114 (by decide) ?_
  refine j_istore dX4_key_115 (by decide) rfl ?_
  refine j_goto (tgt := 132) dX4_key_117 (by decide) ?_
  refine j_iload dX4_key_132 rfl ?_
  refine j_tabI (tgt := 233) dX4_key_134 (by decide) (by decide) rfl (by decide) ?_
  refine j_heap (h' := scD h1) (fun i e hi => scD_le hi) ?_
  have hfr : ∀ i, kpI i → r i = r i ∧ (i ≠ 200 → scD h1 i = h i) := fun i hi => ⟨rfl, fun _ => (scD_k hi).trans (hf1 i (by unfold kpI at hi; omega))⟩
  have h5 := (scD_k (h := h1) (i := 5) (Or.inl (by decide))).trans h5
  have h200 := (scD_k (h := h1) (i := 200) (Or.inl (by decide))).trans h200
  have h201 := (scD_k (h := h1) (i := 201) (Or.inl (by decide))).trans h201
  have h202 := (scD_k (h := h1) (i := 202) (Or.inl (by decide))).trans h202
  have h240 := (scD_k (h := h1) (i := 240) (Or.inr (by decide))).trans h240
  have hk := (scD_k (h := h1) (i := nk + 220) (Or.inr (by omega))).trans hk
  refine j_aload_n dX4_key_233 rfl ?_
  by_cases hnw : (pKc T n bs m 10 a).1 = 0
  · skip
    refine j_callV ((r_now h5 hsb hn4 ha h200 h201 h202 hD hnk hk h240 scD_F).weak (fun _ _ _ _ hq => q_kt.ok hnw hq)) q_k1.isR dX4_key_234 pmX4_now q699 q701 qs9 h200 rfl rfl rfl ⟨Nat.le_of_ble_eq_true rfl, Nat.le_of_ble_eq_true rfl⟩ ⟨Nat.le_of_ble_eq_true rfl, Nat.le_of_ble_eq_true rfl⟩ rfl (Nat.le_of_ble_eq_true rfl) ?_
    rintro v9 r9 h9 nx9 ⟨e9, x1, x2, x3⟩
    cases e9
    refine j_aret dX4_key_237 rfl (Or.inl ⟨_, rfl⟩) (Or.inr ⟨_, rfl⟩) (Nat.le_of_ble_eq_true rfl) (Nat.le_of_ble_eq_true rfl) ?_
    exact Or.inl ⟨hnw, rfl, x1, x2, fun i hi hi2 => ⟨(x3 i hi hi2).1, fun h3 => ((x3 i hi hi2).2 h3).trans ((hfr i hi).2 h3)⟩⟩
  · skip
    refine j_callVT ((r_now h5 hsb hn4 ha h200 h201 h202 hD hnk hk h240 scD_F).weak (fun _ _ _ _ hq => q_kt.no hnw hq)) q_T.isT rfl dX4_key_234 pmX4_now q699 q701 qs9 h200 rfl rfl rfl ⟨(Nat.le_of_ble_eq_true rfl), (Nat.le_of_ble_eq_true rfl)⟩ ⟨(Nat.le_of_ble_eq_true rfl), (Nat.le_of_ble_eq_true rfl)⟩ rfl (Nat.le_of_ble_eq_true rfl) (Nat.le_of_ble_eq_true rfl) (Nat.le_of_ble_eq_true rfl) ?_
    intro v9 r9 h9 nx9 hq9
    exact Or.inr ⟨hnw, hq9.up rfl rfl (fun i hi => ⟨rfl, (hfr i (by unfold kpI; omega)).2 (by omega)⟩)⟩
set_option maxHeartbeats 4000000 in
theorem r_key11 {l : Launch} {D : va_G} {dT : Nat → ClassId} {H0 : Heap} {r : Nat → Nat} {h : j_H} {nx : Nat} {dTx : Nat → Int32} {T : Nat → Nat} {n a fr kd bs fg m nk : Nat} (h5 : h 5 = some (txC dT dTx)) (hsb : sbR dTx n T) (hn4 : n ≤ 400) (ha : a ≤ n) (h200 : h 200 = some (rdC (r 5) n (r 201) a fr)) (h201 : h 201 = some (rcell (.ref (r 202)) (r 203) nk)) (h202 : h 202 = some (dcell kd bs fg m)) (hD : okD kd bs m) (hnk : nk ≤ 8) (hk : h (nk + 220) = none) (h240 : h 240 = none) {q w : Nat} {g : Nat → Int32} (h213 : h 213 = some (strC (r 214))) (h214 : h 214 = some (byC dT w g)) (hg : ∀ j, j < w → g j = nI (T (q + j)) ∧ T (q + j) < 128) (b : Nat) (hx : wIx (wrd T q w) = 11) : MC (gG l D dT H0) yX4_key cX4_key 7 (some (.object "FewKeys$Key")) 8 12 1620 [.ref (r 200), .ref (r 213), .int (nI b)] r h nx (q_kt (pKc T n bs m 11 a) n nk r h) := by
  have hwr : wrd T q w = jLw 11 := by rw [jLw_is (by decide) (by decide)]; exact (wIx_is ⟨by decide, by decide⟩).mp hx
  have hlen : w = 5 := (wrd_eq.mp hwr).1
  have hhs : hsF g w = 109776284 := by rw [hsF_eq w (fun j hj => (hg j hj).1), hwr]; decide
  have hne : ¬ hsF g w = 0 := by rw [hhs]; decide
  have hw : w < 2 ^ 30 := by omega
  have hbs : 2 ≤ bs ∧ bs ≤ 10 := ⟨hD.2.1, hD.2.2.1⟩
  refine MC.ofJ [some (.ref (r 200)), some (.ref (r 213)), some (.int (nI b)), none, none, none, none] rfl (Nat.le_of_ble_eq_true rfl) (by decide) ?_
  refine j_aload_n dX4_key_0 rfl ?_
  refine j_astore_n dX4_key_1 (by decide) rfl ?_
  refine j_iconst (v := (-1)) dX4_key_2 (by decide) ?_
  refine j_istore dX4_key_3 (by decide) rfl ?_
  refine j_aload_n dX4_key_5 rfl ?_
  refine j_callVi (b_hash h213 h214 (by omega) (by omega) hne) dX4_key_6 pmJ2_hashCode q590 q591 q592 h213 rfl rfl rfl ⟨Nat.le_of_ble_eq_true rfl, Nat.le_of_ble_eq_true rfl⟩ ⟨Nat.le_of_ble_eq_true rfl, Nat.le_of_ble_eq_true rfl⟩ rfl (Nat.le_of_ble_eq_true rfl) ?_
  have hf1 : ∀ i, i ≠ 213 → j_set h 213 (strH (r 214) (hsF g w)) i = h i := fun i hi => j_set_ne hi
  have h213 : j_set h 213 (strH (r 214) (hsF g w)) 213 = some (strH (r 214) (hsF g w)) := j_set_self
  generalize j_set h 213 (strH (r 214) (hsF g w)) = h1 at hf1 h213 ⊢
  have hfr : ∀ i, kpI i → r i = r i ∧ (i ≠ 200 → h1 i = h i) := fun i hi => ⟨rfl, fun _ => hf1 i (by unfold kpI at hi; omega)⟩
  have h5 := (hf1 5 (by decide)).trans h5
  have h200 := (hf1 200 (by decide)).trans h200
  have h201 := (hf1 201 (by decide)).trans h201
  have h202 := (hf1 202 (by decide)).trans h202
  have h214 := (hf1 214 (by decide)).trans h214
  have h240 := (hf1 240 (by decide)).trans h240
  have hk := (hf1 (nk + 220) (by omega)).trans hk
  refine j_look (tgt := 120) dX4_key_9 (by decide) (by rw [hhs]) (by decide) ?_
  refine j_aload_n dX4_key_120 rfl ?_
  refine j_ldcS dX4_key_121 (fun _ hs => (hs.2.2.2.1 11 (by decide) (by decide)).2.2.2.2) ?_
  refine j_callVi (b_eq 11 h213 h214 hg hw (by decide) (by decide)) dX4_key_123 pmJ2_equals q461 q462 q463 h213 rfl rfl rfl ⟨Nat.le_of_ble_eq_true rfl, Nat.le_of_ble_eq_true rfl⟩ ⟨Nat.le_of_ble_eq_true rfl, Nat.le_of_ble_eq_true rfl⟩ rfl (Nat.le_of_ble_eq_true rfl) ?_
  refine j_ifb_eq (tgt := 132) dX4_key_126 (by decide) (fun c126 => absurd hx c126) (fun c126 => ?_)
  refine j_iconst (v := 4) dX4_key_129 (by decide) ?_
  refine j_istore dX4_key_130 (by decide) rfl ?_
  refine j_iload dX4_key_132 rfl ?_
  refine j_tabI (tgt := 238) dX4_key_134 (by decide) (by decide) rfl (by decide) ?_
  refine j_aload_n dX4_key_238 rfl ?_
  by_cases hnw : (pKc T n bs m 11 a).1 = 0
  · skip
    refine j_callV ((r_stuck h5 hsb hn4 ha h200 h201 h202 hD hnk hk h240).weak (fun _ _ _ _ hq => q_kt.ok hnw hq)) q_k1.isR dX4_key_239 pmX4_stuck q722 q724 qs11 h200 rfl rfl rfl ⟨Nat.le_of_ble_eq_true rfl, Nat.le_of_ble_eq_true rfl⟩ ⟨Nat.le_of_ble_eq_true rfl, Nat.le_of_ble_eq_true rfl⟩ rfl (Nat.le_of_ble_eq_true rfl) ?_
    rintro v9 r9 h9 nx9 ⟨e9, x1, x2, x3⟩
    cases e9
    refine j_aret dX4_key_242 rfl (Or.inl ⟨_, rfl⟩) (Or.inr ⟨_, rfl⟩) (Nat.le_of_ble_eq_true rfl) (Nat.le_of_ble_eq_true rfl) ?_
    exact Or.inl ⟨hnw, rfl, x1, x2, fun i hi hi2 => ⟨(x3 i hi hi2).1, fun h3 => ((x3 i hi hi2).2 h3).trans ((hfr i hi).2 h3)⟩⟩
  · skip
    refine j_callVT ((r_stuck h5 hsb hn4 ha h200 h201 h202 hD hnk hk h240).weak (fun _ _ _ _ hq => q_kt.no hnw hq)) q_T.isT rfl dX4_key_239 pmX4_stuck q722 q724 qs11 h200 rfl rfl rfl ⟨(Nat.le_of_ble_eq_true rfl), (Nat.le_of_ble_eq_true rfl)⟩ ⟨(Nat.le_of_ble_eq_true rfl), (Nat.le_of_ble_eq_true rfl)⟩ rfl (Nat.le_of_ble_eq_true rfl) (Nat.le_of_ble_eq_true rfl) (Nat.le_of_ble_eq_true rfl) ?_
    intro v9 r9 h9 nx9 hq9
    exact Or.inr ⟨hnw, hq9.up rfl rfl (fun i hi => ⟨rfl, (hfr i (by unfold kpI; omega)).2 (by omega)⟩)⟩
/-- the key behind its word x -/
theorem r_key {l : Launch} {D : va_G} {dT : Nat → ClassId} {H0 : Heap} {r : Nat → Nat} {h : j_H} {nx : Nat} {dTx : Nat → Int32} {T : Nat → Nat} {n a fr kd bs fg m nk : Nat} (h5 : h 5 = some (txC dT dTx)) (hsb : sbR dTx n T) (hn4 : n ≤ 400) (ha : a ≤ n) (h200 : h 200 = some (rdC (r 5) n (r 201) a fr)) (h201 : h 201 = some (rcell (.ref (r 202)) (r 203) nk)) (h202 : h 202 = some (dcell kd bs fg m)) (hD : okD kd bs m) (hnk : nk ≤ 8) (hk : h (nk + 220) = none) (h240 : h 240 = none) {q w : Nat} {g : Nat → Int32} (h213 : h 213 = some (strC (r 214))) (h214 : h 214 = some (byC dT w g)) (hg : ∀ j, j < w → g j = nI (T (q + j)) ∧ T (q + j) < 128) (b : Nat) (x : Nat) (hx : wIx (wrd T q w) = x) (h4 : 4 ≤ x) : MC (gG l D dT H0) yX4_key cX4_key 7 (some (.object "FewKeys$Key")) 8 12 1620 [.ref (r 200), .ref (r 213), .int (nI b)] r h nx (q_kt (pKc T n bs m x a) n nk r h) := by
  have h11 : x ≤ 11 := by rw [← hx]; exact wIx_le
  have ck : x = 4 ∨ x = 5 ∨ x = 6 ∨ x = 7 ∨ x = 8 ∨ x = 9 ∨ x = 10 ∨ x = 11 := by omega
  rcases ck with e | e | e | e | e | e | e | e <;> subst e
  · exact r_key4 h5 hsb hn4 ha h200 h201 h202 hD hnk hk h240 h213 h214 hg b hx
  · exact r_key5 h5 hsb hn4 ha h200 h201 h202 hD hnk hk h240 h213 h214 hg b hx
  · exact r_key6 h5 hsb hn4 ha h200 h201 h202 hD hnk hk h240 h213 h214 hg b hx
  · exact r_key7 h5 hsb hn4 ha h200 h201 h202 hD hnk hk h240 h213 h214 hg b hx
  · exact r_key8 h5 hsb hn4 ha h200 h201 h202 hD hnk hk h240 h213 h214 hg b hx
  · exact r_key9 h5 hsb hn4 ha h200 h201 h202 hD hnk hk h240 h213 h214 hg b hx
  · exact r_key10 h5 hsb hn4 ha h200 h201 h202 hD hnk hk h240 h213 h214 hg b hx
  · exact r_key11 h5 hsb hn4 ha h200 h201 h202 hD hnk hk h240 h213 h214 hg b hx
