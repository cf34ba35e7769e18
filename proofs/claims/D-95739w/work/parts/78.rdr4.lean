set_option maxRecDepth 100000
theorem MC.re {G : j_G} {y : MethodName} {cc : ByteArray} {nL : Nat} {ret : Option FieldType} {d mc ms : Nat} {args : List Value} {r r' : Nat → Nat} {h h' : j_H} {nx : Nat} {Q : j_Q} (hh : ∀ H, j_holds G r h nx H → j_holds G r' h' nx H) (hM : MC G y cc nL ret d mc ms args r' h' nx Q) : MC G y cc nL ret d mc ms args r h nx Q := by
  intro p e ha hc hk s m args' below hf happ hP hK
  exact hM p e ha hc hk s m args' below hf happ ⟨hP.1, hh _ hP.2.1, hP.2.2⟩ hK
theorem MC.mv {G : j_G} {y : MethodName} {cc : ByteArray} {nL : Nat} {ret : Option FieldType} {d mc ms : Nat} {args : List Value} {r : Nat → Nat} {h : j_H} {nx i v : Nat} {Q : j_Q} (hi : h i = none) (hM : MC G y cc nL ret d mc ms args (va_up r i v) h nx Q) : MC G y cc nL ret d mc ms args r h nx Q :=
  hM.re (fun H hH => hH.re (fun k => k) (fun k e hk => ⟨hk, va_up_ne _ _ (fun z => by rw [z, hi] at hk; cases hk)⟩) (fun _ _ _ _ _ _ z => z))
/-- a Fault (number f, place x) is thrown; FewKeys and the model are as they were -/
def q_T (f x : Nat) (r : Nat → Nat) (h : j_H) : j_Q := fun o r' h' _ => o = .threw (r' 240) ∧ h' 240 = some (faC f x) ∧ ∀ i, i < 200 → r' i = r i ∧ h' i = h i
theorem q_T.isT {f x : Nat} {r : Nat → Nat} {h : j_H} : j_isT (q_T f x r h) := fun _ _ _ _ hq => ⟨_, hq.1⟩
theorem q_T.up {f x f' x' : Nat} {r r1 r' : Nat → Nat} {h h1 h' : j_H} {o : Outcome} {nx : Nat} (hq : q_T f x r1 h1 o r' h' nx) (hf : f = f') (hx : x = x') (hr : ∀ i, i < 200 → r1 i = r i ∧ h1 i = h i) : q_T f' x' r h o r' h' nx := by
  subst hf; subst hx
  exact ⟨hq.1, hq.2.1, fun i hi => ⟨(hq.2.2 i hi).1.trans (hr i hi).1, (hq.2.2 i hi).2.trans (hr i hi).2⟩⟩
theorem q_rt.T {f x n td : Nat} {r r' : Nat → Nat} {h h' : j_H} {nx nx' v a fr : Nat} {o : Outcome} (hq : q_rt f x n td (va_up r 240 v) h nx o r' h' nx') : q_T f x r (j_set h 200 (rdC (r 5) n td a fr)) o r' h' nx' := by
  obtain ⟨e1, e2, -, a', f', e3⟩ := hq
  subst e2; subst e3
  refine ⟨e1, j_set_self, fun i hi => ⟨va_up_ne _ _ (by omega), ?_⟩⟩
  rw [j_set_ne (by omega), j_set_ne (by omega), j_set_ne (by omega)]
theorem jq_t.T {f x : Nat} {r r' : Nat → Nat} {h h' : j_H} {nx nx' v : Nat} {o : Outcome} (hq : jq_t 240 (nI f) (nI x) (va_up r 240 v) h nx o r' h' nx') : q_T f x r h o r' h' nx' := by
  obtain ⟨e1, e2, e3, -⟩ := hq
  subst e2; subst e3
  exact ⟨e1, j_set_self, fun i hi => ⟨va_up_ne _ _ (by omega), j_set_ne (by omega)⟩⟩
theorem wIx_le {l : List Nat} : wIx l ≤ 11 := by
  unfold wIx
  repeat' split
  all_goals omega
theorem sg_ne {x : Nat} (h : 5 ≤ x ∧ x ≤ 7) : ¬ nI (x - 4) = -1 := by
  have ck : x = 5 ∨ x = 6 ∨ x = 7 := by omega
  rcases ck with rfl | rfl | rfl <;> decide
theorem s_want0 {l : Launch} {D : va_G} {dT : Nat → ClassId} {H0 : Heap} {r : Nat → Nat} {h : j_H} {nx : Nat} (f x : Nat) (h240 : h 240 = none) : MC (gG l D dT H0) yX4_want cX4_want 3 none 4 1 8 [.int 0, .int (nI f), .int (nI x)] r h nx (q_T f x r h) :=
  ((r_want0 (r := va_up r 240 nx) (nI f) (nI x) 240 (va_up_self _ _ _)).weak (fun _ _ _ _ hq => jq_t.T hq)).mv h240
theorem s_num0 {l : Launch} {D : va_G} {dT : Nat → ClassId} {H0 : Heap} {r : Nat → Nat} {h : j_H} {nx : Nat} {dTx : Nat → Int32} {T : Nat → Nat} {n td a fr : Nat} (h5 : h 5 = some (txC dT dTx)) (hsb : sbR dTx n T) (hn4 : n ≤ 400) (ha : a ≤ n) (lo hi : Nat) (hlo : lo < 2 ^ 31) (hhi : hi < 2 ^ 31) (hok : ¬ (pNum T n a lo hi).1 = 0) (h240 : h 240 = none) : MC (gG l D dT H0) yX4_number cX4_number 4 (some .int) 5 1 8 [.ref (r 200), .int (nI lo), .int (nI hi)] r (j_set h 200 (rdC (r 5) n td a fr)) nx (q_T (pNum T n a lo hi).1 (pNum T n a lo hi).2.1 r (j_set h 200 (rdC (r 5) n td a fr))) :=
  ((r_num0 (r := va_up r 240 nx) (fr := fr) (td := td) h5 hsb hn4 ha lo hi hlo hhi hok (va_up_self _ _ _)).weak (fun _ _ _ _ hq => q_rt.T hq)).mv (by rw [j_set_ne (by decide)]; exact h240)
theorem s_cost0 {l : Launch} {D : va_G} {dT : Nat → ClassId} {H0 : Heap} {r : Nat → Nat} {h : j_H} {nx : Nat} {dTx : Nat → Int32} {T : Nat → Nat} {n td a fr : Nat} (h5 : h 5 = some (txC dT dTx)) (hsb : sbR dTx n T) (hn4 : n ≤ 400) (ha : a ≤ n) (hok : ¬ (pNum T n a 1 99).1 = 0) (h240 : h 240 = none) : MC (gG l D dT H0) yX4_cost cX4_cost 1 (some .int) 6 1 8 [.ref (r 200)] r (j_set h 200 (rdC (r 5) n td a fr)) nx (q_T (pNum T n a 1 99).1 (pNum T n a 1 99).2.1 r (j_set h 200 (rdC (r 5) n td a fr))) :=
  ((r_cost0 (r := va_up r 240 nx) (fr := fr) (td := td) h5 hsb hn4 ha hok (va_up_self _ _ _)).weak (fun _ _ _ _ hq => q_rt.T hq)).mv (by rw [j_set_ne (by decide)]; exact h240)
theorem s_end0 {l : Launch} {D : va_G} {dT : Nat → ClassId} {H0 : Heap} {r : Nat → Nat} {h : j_H} {nx : Nat} {dTx : Nat → Int32} {T : Nat → Nat} {n td a fr : Nat} (h5 : h 5 = some (txC dT dTx)) (hsb : sbR dTx n T) (hn4 : n ≤ 400) (ha : a ≤ n) (hok : ¬ (pEnd T n a).1 = 0) (h240 : h 240 = none) : MC (gG l D dT H0) yX4_end cX4_end 1 none 5 1 8 [.ref (r 200)] r (j_set h 200 (rdC (r 5) n td a fr)) nx (q_T (pEnd T n a).1 (pEnd T n a).2.1 r (j_set h 200 (rdC (r 5) n td a fr))) :=
  ((r_end0 (r := va_up r 240 nx) (fr := fr) (td := td) h5 hsb hn4 ha hok (va_up_self _ _ _)).weak (fun _ _ _ _ hq => q_rt.T hq)).mv (by rw [j_set_ne (by decide)]; exact h240)
set_option maxHeartbeats 4000000 in
theorem r_sign1 {l : Launch} {D : va_G} {dT : Nat → ClassId} {H0 : Heap} {r : Nat → Nat} {h : j_H} {nx : Nat} {T : Nat → Nat} {q w : Nat} {hv : Int32} {g : Nat → Int32} (h213 : h 213 = some (strH (r 214) hv)) (h214 : h 214 = some (byC dT w g)) (hg : ∀ j, j < w → g j = nI (T (q + j)) ∧ T (q + j) < 128) (hw : w < 2 ^ 30) (b : Nat) (hx : 5 ≤ wIx (wrd T q w) ∧ wIx (wrd T q w) ≤ 7) : MC (gG l D dT H0) yX4_sign cX4_sign 4 (some .int) 5 0 0 [.ref (r 200), .ref (r 213), .int (nI b)] r h nx (jq_i (nI (wIx (wrd T q w) - 4)) r h nx) := by
  refine MC.ofJ [some (.ref (r 200)), some (.ref (r 213)), some (.int (nI b)), none] rfl (Nat.le_of_ble_eq_true rfl) (by decide) ?_
  refine j_join (tgt := 40) (fun z => z = nI (wIx (wrd T q w) - 4)) (fun v0 hv0 => ?_) (fun kj0 => ?_)
  · skip
    subst hv0
    refine j_istore_n dX4_sign_40 (by decide) rfl ?_
    refine j_iload_n dX4_sign_41 rfl ?_
    refine j_iconst (v := (-1)) dX4_sign_42 (by decide) ?_
    refine j_icmp_eq (tgt := 50) dX4_sign_43 (by decide) (fun c43 => absurd c43 (sg_ne hx)) (fun c43 => ?_)
    refine j_iconst (v := 1) dX4_sign_46 (by decide) ?_
    refine j_goto (tgt := 51) dX4_sign_47 (by decide) ?_
    refine j_iconst (v := 1) dX4_sign_51 (by decide) ?_
    refine j_iload_n dX4_sign_52 rfl ?_
    refine j_callSv (r_want1 1 (nI b)) dX4_sign_53 pmX4_want q469 q470 rfl ⟨Nat.le_of_ble_eq_true rfl, Nat.le_of_ble_eq_true rfl⟩ ⟨Nat.le_of_ble_eq_true rfl, Nat.le_of_ble_eq_true rfl⟩ rfl (Nat.le_of_ble_eq_true rfl) ?_
    refine j_iload_n dX4_sign_56 rfl ?_
    refine j_iret dX4_sign_57 rfl rfl (Nat.le_refl _) (Nat.le_refl _) ?_
    exact jr_i rfl
  · skip
    refine j_aload_n dX4_sign_0 rfl ?_
    refine j_ldcS dX4_sign_1 (fun _ hs => (hs.2.2.2.1 5 (by decide) (by decide)).2.2.2.2) ?_
    refine j_callVi (b_eq 5 h213 h214 hg hw (by decide) (by decide)) dX4_sign_3 pmJ2_equals q461 q462 q463 h213 rfl rfl rfl ⟨Nat.le_of_ble_eq_true rfl, Nat.le_of_ble_eq_true rfl⟩ ⟨Nat.le_of_ble_eq_true rfl, Nat.le_of_ble_eq_true rfl⟩ rfl (Nat.le_of_ble_eq_true rfl) ?_
    refine j_ifb_eq (tgt := 13) dX4_sign_6 (by decide) (fun c6 => ?_) (fun c6 => ?_)
    · skip
      refine j_aload_n dX4_sign_13 rfl ?_
      refine j_ldcS dX4_sign_14 (fun _ hs => (hs.2.2.2.1 6 (by decide) (by decide)).2.2.2.2) ?_
      refine j_callVi (b_eq 6 h213 h214 hg hw (by decide) (by decide)) dX4_sign_16 pmJ2_equals q461 q462 q463 h213 rfl rfl rfl ⟨Nat.le_of_ble_eq_true rfl, Nat.le_of_ble_eq_true rfl⟩ ⟨Nat.le_of_ble_eq_true rfl, Nat.le_of_ble_eq_true rfl⟩ rfl (Nat.le_of_ble_eq_true rfl) ?_
      refine j_ifb_eq (tgt := 26) dX4_sign_19 (by decide) (fun c19 => ?_) (fun c19 => ?_)
      · skip
        refine j_aload_n dX4_sign_26 rfl ?_
        refine j_ldcS dX4_sign_27 (fun _ hs => (hs.2.2.2.1 7 (by decide) (by decide)).2.2.2.2) ?_
        refine j_callVi (b_eq 7 h213 h214 hg hw (by decide) (by decide)) dX4_sign_29 pmJ2_equals q461 q462 q463 h213 rfl rfl rfl ⟨Nat.le_of_ble_eq_true rfl, Nat.le_of_ble_eq_true rfl⟩ ⟨Nat.le_of_ble_eq_true rfl, Nat.le_of_ble_eq_true rfl⟩ rfl (Nat.le_of_ble_eq_true rfl) ?_
        refine j_ifb_eq (tgt := 39) dX4_sign_32 (by decide) (fun c32 => absurd (show wIx (wrd T q w) = 7 by omega) c32) (fun c32 => ?_)
        have hj : (3 : Int32) = nI (wIx (wrd T q w) - 4) := by rw [c32]; rfl
        refine j_iconst (v := 3) dX4_sign_35 (by decide) ?_
        refine j_goto (tgt := 40) dX4_sign_36 (by decide) ?_
        exact kj0 _ hj
      · skip
        have hj : (2 : Int32) = nI (wIx (wrd T q w) - 4) := by rw [c19]; rfl
        refine j_iconst (v := 2) dX4_sign_22 (by decide) ?_
        refine j_goto (tgt := 40) dX4_sign_23 (by decide) ?_
        exact kj0 _ hj
    · skip
      have hj : (1 : Int32) = nI (wIx (wrd T q w) - 4) := by rw [c6]; rfl
      refine j_iconst (v := 1) dX4_sign_9 (by decide) ?_
      refine j_goto (tgt := 40) dX4_sign_10 (by decide) ?_
      exact kj0 _ hj
set_option maxHeartbeats 4000000 in
theorem r_sign0 {l : Launch} {D : va_G} {dT : Nat → ClassId} {H0 : Heap} {r : Nat → Nat} {h : j_H} {nx : Nat} {T : Nat → Nat} {q w : Nat} {hv : Int32} {g : Nat → Int32} (h213 : h 213 = some (strH (r 214) hv)) (h214 : h 214 = some (byC dT w g)) (hg : ∀ j, j < w → g j = nI (T (q + j)) ∧ T (q + j) < 128) (hw : w < 2 ^ 30) (b : Nat) (hx : ¬ (5 ≤ wIx (wrd T q w) ∧ wIx (wrd T q w) ≤ 7)) (h240 : h 240 = none) : MC (gG l D dT H0) yX4_sign cX4_sign 4 (some .int) 5 1 8 [.ref (r 200), .ref (r 213), .int (nI b)] r h nx (q_T 1 b r h) := by
  refine MC.ofJ [some (.ref (r 200)), some (.ref (r 213)), some (.int (nI b)), none] rfl (Nat.le_of_ble_eq_true rfl) (by decide) ?_
  refine j_aload_n dX4_sign_0 rfl ?_
  refine j_ldcS dX4_sign_1 (fun _ hs => (hs.2.2.2.1 5 (by decide) (by decide)).2.2.2.2) ?_
  refine j_callVi (b_eq 5 h213 h214 hg hw (by decide) (by decide)) dX4_sign_3 pmJ2_equals q461 q462 q463 h213 rfl rfl rfl ⟨Nat.le_of_ble_eq_true rfl, Nat.le_of_ble_eq_true rfl⟩ ⟨Nat.le_of_ble_eq_true rfl, Nat.le_of_ble_eq_true rfl⟩ rfl (Nat.le_of_ble_eq_true rfl) ?_
  refine j_ifb_eq (tgt := 13) dX4_sign_6 (by decide) (fun c6 => ?_) (fun c6 => absurd c6 (show ¬ wIx (wrd T q w) = 5 by omega))
  refine j_aload_n dX4_sign_13 rfl ?_
  refine j_ldcS dX4_sign_14 (fun _ hs => (hs.2.2.2.1 6 (by decide) (by decide)).2.2.2.2) ?_
  refine j_callVi (b_eq 6 h213 h214 hg hw (by decide) (by decide)) dX4_sign_16 pmJ2_equals q461 q462 q463 h213 rfl rfl rfl ⟨Nat.le_of_ble_eq_true rfl, Nat.le_of_ble_eq_true rfl⟩ ⟨Nat.le_of_ble_eq_true rfl, Nat.le_of_ble_eq_true rfl⟩ rfl (Nat.le_of_ble_eq_true rfl) ?_
  refine j_ifb_eq (tgt := 26) dX4_sign_19 (by decide) (fun c19 => ?_) (fun c19 => absurd c19 (show ¬ wIx (wrd T q w) = 6 by omega))
  refine j_aload_n dX4_sign_26 rfl ?_
  refine j_ldcS dX4_sign_27 (fun _ hs => (hs.2.2.2.1 7 (by decide) (by decide)).2.2.2.2) ?_
  refine j_callVi (b_eq 7 h213 h214 hg hw (by decide) (by decide)) dX4_sign_29 pmJ2_equals q461 q462 q463 h213 rfl rfl rfl ⟨Nat.le_of_ble_eq_true rfl, Nat.le_of_ble_eq_true rfl⟩ ⟨Nat.le_of_ble_eq_true rfl, Nat.le_of_ble_eq_true rfl⟩ rfl (Nat.le_of_ble_eq_true rfl) ?_
  refine j_ifb_eq (tgt := 39) dX4_sign_32 (by decide) (fun c32 => ?_) (fun c32 => absurd c32 (show ¬ wIx (wrd T q w) = 7 by omega))
  refine j_iconst (v := (-1)) dX4_sign_39 (by decide) ?_
  refine j_istore_n dX4_sign_40 (by decide) rfl ?_
  refine j_iload_n dX4_sign_41 rfl ?_
  refine j_iconst (v := (-1)) dX4_sign_42 (by decide) ?_
  refine j_icmp_eq (tgt := 50) dX4_sign_43 (by decide) (fun c43 => ?_) (fun c43 => absurd rfl c43)
  refine j_iconst (v := 0) dX4_sign_50 (by decide) ?_
  refine j_iconst (v := 1) dX4_sign_51 (by decide) ?_
  refine j_iload_n dX4_sign_52 rfl ?_
  refine j_callST (s_want0 1 b h240) q_T.isT rfl dX4_sign_53 pmX4_want q469 q470 rfl ⟨(Nat.le_of_ble_eq_true rfl), (Nat.le_of_ble_eq_true rfl)⟩ ⟨(Nat.le_of_ble_eq_true rfl), (Nat.le_of_ble_eq_true rfl)⟩ rfl (Nat.le_of_ble_eq_true rfl) (Nat.le_of_ble_eq_true rfl) (Nat.le_of_ble_eq_true rfl) ?_
  intro v9 r9 h9 nx9 hq9
  exact hq9
set_option maxHeartbeats 4000000 in
theorem r_isKey {l : Launch} {D : va_G} {dT : Nat → ClassId} {H0 : Heap} {r : Nat → Nat} {h : j_H} {nx : Nat} {T : Nat → Nat} {q w : Nat} {hv : Int32} {g : Nat → Int32} (h213 : h 213 = some (strH (r 214) hv)) (h214 : h 214 = some (byC dT w g)) (hg : ∀ j, j < w → g j = nI (T (q + j)) ∧ T (q + j) < 128) (hw : w < 2 ^ 30) : MC (gG l D dT H0) yX4_isKey cX4_isKey 1 (some .boolean) 2 0 0 [.ref (r 213)] r h nx (jq_i (j_b (4 ≤ wIx (wrd T q w))) r h nx) := by
  refine MC.ofJ [some (.ref (r 213))] rfl (Nat.le_of_ble_eq_true rfl) (by decide) ?_
  refine j_aload_n dX4_isKey_0 rfl ?_
  refine j_ldcS dX4_isKey_1 (fun _ hs => (hs.2.2.2.1 4 (by decide) (by decide)).2.2.2.2) ?_
  refine j_callVi (b_eq 4 h213 h214 hg hw (by decide) (by decide)) dX4_isKey_3 pmJ2_equals q461 q462 q463 h213 rfl rfl rfl ⟨Nat.le_of_ble_eq_true rfl, Nat.le_of_ble_eq_true rfl⟩ ⟨Nat.le_of_ble_eq_true rfl, Nat.le_of_ble_eq_true rfl⟩ rfl (Nat.le_of_ble_eq_true rfl) ?_
  refine j_ifb_ne (tgt := 72) dX4_isKey_6 (by decide) (fun c6 => ?_) (fun c6 => ?_)
  · skip
    refine j_iconst (v := 1) dX4_isKey_72 (by decide) ?_
    refine j_goto (tgt := 77) dX4_isKey_73 (by decide) ?_
    refine j_iret dX4_isKey_77 rfl rfl (Nat.le_refl _) (Nat.le_refl _) ?_
    exact jr_t (by omega)
  · skip
    refine j_aload_n dX4_isKey_9 rfl ?_
    refine j_ldcS dX4_isKey_10 (fun _ hs => (hs.2.2.2.1 5 (by decide) (by decide)).2.2.2.2) ?_
    refine j_callVi (b_eq 5 h213 h214 hg hw (by decide) (by decide)) dX4_isKey_12 pmJ2_equals q461 q462 q463 h213 rfl rfl rfl ⟨Nat.le_of_ble_eq_true rfl, Nat.le_of_ble_eq_true rfl⟩ ⟨Nat.le_of_ble_eq_true rfl, Nat.le_of_ble_eq_true rfl⟩ rfl (Nat.le_of_ble_eq_true rfl) ?_
    refine j_ifb_ne (tgt := 72) dX4_isKey_15 (by decide) (fun c15 => ?_) (fun c15 => ?_)
    · skip
      refine j_iconst (v := 1) dX4_isKey_72 (by decide) ?_
      refine j_goto (tgt := 77) dX4_isKey_73 (by decide) ?_
      refine j_iret dX4_isKey_77 rfl rfl (Nat.le_refl _) (Nat.le_refl _) ?_
      exact jr_t (by omega)
    · skip
      refine j_aload_n dX4_isKey_18 rfl ?_
      refine j_ldcS dX4_isKey_19 (fun _ hs => (hs.2.2.2.1 6 (by decide) (by decide)).2.2.2.2) ?_
      refine j_callVi (b_eq 6 h213 h214 hg hw (by decide) (by decide)) dX4_isKey_21 pmJ2_equals q461 q462 q463 h213 rfl rfl rfl ⟨Nat.le_of_ble_eq_true rfl, Nat.le_of_ble_eq_true rfl⟩ ⟨Nat.le_of_ble_eq_true rfl, Nat.le_of_ble_eq_true rfl⟩ rfl (Nat.le_of_ble_eq_true rfl) ?_
      refine j_ifb_ne (tgt := 72) dX4_isKey_24 (by decide) (fun c24 => ?_) (fun c24 => ?_)
      · skip
        refine j_iconst (v := 1) dX4_isKey_72 (by decide) ?_
        refine j_goto (tgt := 77) dX4_isKey_73 (by decide) ?_
        refine j_iret dX4_isKey_77 rfl rfl (Nat.le_refl _) (Nat.le_refl _) ?_
        exact jr_t (by omega)
      · skip
        refine j_aload_n dX4_isKey_27 rfl ?_
        refine j_ldcS dX4_isKey_28 (fun _ hs => (hs.2.2.2.1 7 (by decide) (by decide)).2.2.2.2) ?_
        refine j_callVi (b_eq 7 h213 h214 hg hw (by decide) (by decide)) dX4_isKey_30 pmJ2_equals q461 q462 q463 h213 rfl rfl rfl ⟨Nat.le_of_ble_eq_true rfl, Nat.le_of_ble_eq_true rfl⟩ ⟨Nat.le_of_ble_eq_true rfl, Nat.le_of_ble_eq_true rfl⟩ rfl (Nat.le_of_ble_eq_true rfl) ?_
        refine j_ifb_ne (tgt := 72) dX4_isKey_33 (by decide) (fun c33 => ?_) (fun c33 => ?_)
        · skip
          refine j_iconst (v := 1) dX4_isKey_72 (by decide) ?_
          refine j_goto (tgt := 77) dX4_isKey_73 (by decide) ?_
          refine j_iret dX4_isKey_77 rfl rfl (Nat.le_refl _) (Nat.le_refl _) ?_
          exact jr_t (by omega)
        · skip
          refine j_aload_n dX4_isKey_36 rfl ?_
          refine j_ldcS dX4_isKey_37 (fun _ hs => (hs.2.2.2.1 8 (by decide) (by decide)).2.2.2.2) ?_
          refine j_callVi (b_eq 8 h213 h214 hg hw (by decide) (by decide)) dX4_isKey_39 pmJ2_equals q461 q462 q463 h213 rfl rfl rfl ⟨Nat.le_of_ble_eq_true rfl, Nat.le_of_ble_eq_true rfl⟩ ⟨Nat.le_of_ble_eq_true rfl, Nat.le_of_ble_eq_true rfl⟩ rfl (Nat.le_of_ble_eq_true rfl) ?_
          refine j_ifb_ne (tgt := 72) dX4_isKey_42 (by decide) (fun c42 => ?_) (fun c42 => ?_)
          · skip
            refine j_iconst (v := 1) dX4_isKey_72 (by decide) ?_
            refine j_goto (tgt := 77) dX4_isKey_73 (by decide) ?_
            refine j_iret dX4_isKey_77 rfl rfl (Nat.le_refl _) (Nat.le_refl _) ?_
            exact jr_t (by omega)
          · skip
            refine j_aload_n dX4_isKey_45 rfl ?_
            refine j_ldcS dX4_isKey_46 (fun _ hs => (hs.2.2.2.1 9 (by decide) (by decide)).2.2.2.2) ?_
            refine j_callVi (b_eq 9 h213 h214 hg hw (by decide) (by decide)) dX4_isKey_48 pmJ2_equals q461 q462 q463 h213 rfl rfl rfl ⟨Nat.le_of_ble_eq_true rfl, Nat.le_of_ble_eq_true rfl⟩ ⟨Nat.le_of_ble_eq_true rfl, Nat.le_of_ble_eq_true rfl⟩ rfl (Nat.le_of_ble_eq_true rfl) ?_
            refine j_ifb_ne (tgt := 72) dX4_isKey_51 (by decide) (fun c51 => ?_) (fun c51 => ?_)
            · skip
              refine j_iconst (v := 1) dX4_isKey_72 (by decide) ?_
              refine j_goto (tgt := 77) dX4_isKey_73 (by decide) ?_
              refine j_iret dX4_isKey_77 rfl rfl (Nat.le_refl _) (Nat.le_refl _) ?_
              exact jr_t (by omega)
            · skip
              refine j_aload_n dX4_isKey_54 rfl ?_
              refine j_ldcS dX4_isKey_55 (fun _ hs => (hs.2.2.2.1 10 (by decide) (by decide)).2.2.2.2) ?_
              refine j_callVi (b_eq 10 h213 h214 hg hw (by decide) (by decide)) dX4_isKey_57 pmJ2_equals q461 q462 q463 h213 rfl rfl rfl ⟨Nat.le_of_ble_eq_true rfl, Nat.le_of_ble_eq_true rfl⟩ ⟨Nat.le_of_ble_eq_true rfl, Nat.le_of_ble_eq_true rfl⟩ rfl (Nat.le_of_ble_eq_true rfl) ?_
              refine j_ifb_ne (tgt := 72) dX4_isKey_60 (by decide) (fun c60 => ?_) (fun c60 => ?_)
              · skip
                refine j_iconst (v := 1) dX4_isKey_72 (by decide) ?_
                refine j_goto (tgt := 77) dX4_isKey_73 (by decide) ?_
                refine j_iret dX4_isKey_77 rfl rfl (Nat.le_refl _) (Nat.le_refl _) ?_
                exact jr_t (by omega)
              · skip
                refine j_aload_n dX4_isKey_63 rfl ?_
                refine j_ldcS dX4_isKey_64 (fun _ hs => (hs.2.2.2.1 11 (by decide) (by decide)).2.2.2.2) ?_
                refine j_callVi (b_eq 11 h213 h214 hg hw (by decide) (by decide)) dX4_isKey_66 pmJ2_equals q461 q462 q463 h213 rfl rfl rfl ⟨Nat.le_of_ble_eq_true rfl, Nat.le_of_ble_eq_true rfl⟩ ⟨Nat.le_of_ble_eq_true rfl, Nat.le_of_ble_eq_true rfl⟩ rfl (Nat.le_of_ble_eq_true rfl) ?_
                refine j_ifb_eq (tgt := 76) dX4_isKey_69 (by decide) (fun c69 => ?_) (fun c69 => ?_)
                · skip
                  refine j_iconst (v := 0) dX4_isKey_76 (by decide) ?_
                  refine j_iret dX4_isKey_77 rfl rfl (Nat.le_refl _) (Nat.le_refl _) ?_
                  exact jr_f (fun z => by have := wIx_le (l := wrd T q w); omega)
                · skip
                  refine j_iconst (v := 1) dX4_isKey_72 (by decide) ?_
                  refine j_goto (tgt := 77) dX4_isKey_73 (by decide) ?_
                  refine j_iret dX4_isKey_77 rfl rfl (Nat.le_refl _) (Nat.le_refl _) ?_
                  exact jr_t (by omega)
set_option maxHeartbeats 4000000 in
theorem r_fig1 {l : Launch} {D : va_G} {dT : Nat → ClassId} {H0 : Heap} {r : Nat → Nat} {h : j_H} {nx : Nat} {dTx : Nat → Int32} {T : Nat → Nat} {n a fr kd bs fg m nk : Nat} (h5 : h 5 = some (txC dT dTx)) (hsb : sbR dTx n T) (hn4 : n ≤ 400) (ha : a ≤ n) (h201 : h 201 = some (rcell (.ref (r 202)) (r 203) nk)) (h202 : h 202 = some (dcell kd bs fg m)) (hbs : 2 ≤ bs ∧ bs ≤ 10) (hok : (pNum T n a 0 (bs - 1)).1 = 0) : MC (gG l D dT H0) yX4_figure cX4_figure 1 (some .int) 6 0 0 [.ref (r 200)] r (j_set h 200 (rdC (r 5) n (r 201) a fr)) nx (jq_i (nI (pNum T n a 0 (bs - 1)).2.1) r (j_set h 200 (rdC (r 5) n (r 201) (pNum T n a 0 (bs - 1)).2.2 (sk T n a))) nx) := by
  refine MC.ofJ [some (.ref (r 200))] rfl (Nat.le_of_ble_eq_true rfl) (by decide) ?_
  refine j_aload_n dX4_figure_0 rfl ?_
  refine j_iconst (v := 0) dX4_figure_1 (by decide) ?_
  refine j_aload_n dX4_figure_2 rfl ?_
  refine j_get 2 dX4_figure_3 j_set_self in_X4 rfl (by decide) q240 rfl ?_
  refine j_getN 0 dX4_figure_6 (by rw [j_set_ne (by decide)]; exact h201) in_X1 rfl (by decide) (fun _ hs => hs.1 _ qn105) rfl ?_
  refine j_getN 1 dX4_figure_9 (by rw [j_set_ne (by decide)]; exact h202) in_X6 rfl (by decide) (fun _ hs => hs.1 _ qn555) rfl ?_
  refine j_iconst (v := 1) dX4_figure_12 (by decide) ?_
  refine j_isub dX4_figure_13 ?_
  refine j_eqi (show _ = nI (bs - 1) from nI_sub (b := 1) (by omega)) ?_
  refine j_callVi (r_num1 h5 hsb hn4 ha 0 (bs - 1) (by omega) hok) dX4_figure_14 pmX4_number q541 q543 qs4 j_set_self rfl rfl rfl ⟨Nat.le_of_ble_eq_true rfl, Nat.le_of_ble_eq_true rfl⟩ ⟨Nat.le_of_ble_eq_true rfl, Nat.le_of_ble_eq_true rfl⟩ rfl (Nat.le_of_ble_eq_true rfl) ?_
  refine j_iret dX4_figure_17 rfl rfl (Nat.le_refl _) (Nat.le_refl _) ?_
  exact jr_i rfl
set_option maxHeartbeats 4000000 in
theorem r_fig0 {l : Launch} {D : va_G} {dT : Nat → ClassId} {H0 : Heap} {r : Nat → Nat} {h : j_H} {nx : Nat} {dTx : Nat → Int32} {T : Nat → Nat} {n a fr kd bs fg m nk : Nat} (h5 : h 5 = some (txC dT dTx)) (hsb : sbR dTx n T) (hn4 : n ≤ 400) (ha : a ≤ n) (h201 : h 201 = some (rcell (.ref (r 202)) (r 203) nk)) (h202 : h 202 = some (dcell kd bs fg m)) (hbs : 2 ≤ bs ∧ bs ≤ 10) (hok : ¬ (pNum T n a 0 (bs - 1)).1 = 0) (h240 : h 240 = none) : MC (gG l D dT H0) yX4_figure cX4_figure 1 (some .int) 6 1 8 [.ref (r 200)] r (j_set h 200 (rdC (r 5) n (r 201) a fr)) nx (q_T (pNum T n a 0 (bs - 1)).1 (pNum T n a 0 (bs - 1)).2.1 r (j_set h 200 (rdC (r 5) n (r 201) a fr))) := by
  refine MC.ofJ [some (.ref (r 200))] rfl (Nat.le_of_ble_eq_true rfl) (by decide) ?_
  refine j_aload_n dX4_figure_0 rfl ?_
  refine j_iconst (v := 0) dX4_figure_1 (by decide) ?_
  refine j_aload_n dX4_figure_2 rfl ?_
  refine j_get 2 dX4_figure_3 j_set_self in_X4 rfl (by decide) q240 rfl ?_
  refine j_getN 0 dX4_figure_6 (by rw [j_set_ne (by decide)]; exact h201) in_X1 rfl (by decide) (fun _ hs => hs.1 _ qn105) rfl ?_
  refine j_getN 1 dX4_figure_9 (by rw [j_set_ne (by decide)]; exact h202) in_X6 rfl (by decide) (fun _ hs => hs.1 _ qn555) rfl ?_
  refine j_iconst (v := 1) dX4_figure_12 (by decide) ?_
  refine j_isub dX4_figure_13 ?_
  refine j_eqi (show _ = nI (bs - 1) from nI_sub (b := 1) (by omega)) ?_
  refine j_callVT (s_num0 h5 hsb hn4 ha 0 (bs - 1) (by decide) (by omega) hok h240) q_T.isT rfl dX4_figure_14 pmX4_number q541 q543 qs4 j_set_self rfl rfl rfl ⟨(Nat.le_of_ble_eq_true rfl), (Nat.le_of_ble_eq_true rfl)⟩ ⟨(Nat.le_of_ble_eq_true rfl), (Nat.le_of_ble_eq_true rfl)⟩ rfl (Nat.le_of_ble_eq_true rfl) (Nat.le_of_ble_eq_true rfl) (Nat.le_of_ble_eq_true rfl) ?_
  intro v9 r9 h9 nx9 hq9
  exact hq9
