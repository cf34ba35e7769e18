set_option maxRecDepth 100000
set_option maxHeartbeats 4000000 in
theorem c_iDial {l : Launch} {D : va_G} {dT : Nat → ClassId} {H0 : Heap} {r : Nat → Nat} {h : j_H} {nx : Nat} (i : Nat) (a b c d : Int32) (hi : h i = some (.inr (6, [.int 0, .int 0, .int 0, .int 0]))) : MC (gG l D dT H0) yX6_init cX6_init 5 none 1 0 0 [.ref (r i), .int a, .int b, .int c, .int d] r h nx (jq_v r (j_ov h [(i, .inr (6, [.int a, .int b, .int c, .int d]))]) nx) := by
  refine MC.ofJ [some (.ref (r i)), some (.int a), some (.int b), some (.int c), some (.int d)] rfl (Nat.le_of_ble_eq_true rfl) (by decide) ?_
  refine j_aload_n dX6_init_0 rfl ?_
  refine j_objInit dX6_init_1 q551 q94 q95 (Nat.le_of_ble_eq_true rfl) (Nat.le_of_ble_eq_true rfl) ?_
  refine j_ov1 hi ?_
  refine j_aload_n dX6_init_4 rfl ?_
  refine j_iload_n dX6_init_5 rfl ?_
  refine j_putF 0 dX6_init_6 ov_hd in_X6 tyX6_ok nmX6 rfl (by decide) q552 rfl rfl rfl rfl rfl (by first | decide | simp) ?_
  refine j_ovs ?_
  refine j_re rfl rfl (by rw [j_upd, j_beq_t rfl, cond_true]) ?_
  refine j_aload_n dX6_init_9 rfl ?_
  refine j_iload_n dX6_init_10 rfl ?_
  refine j_putF 1 dX6_init_11 ov_hd in_X6 tyX6_ok nmX6 rfl (by decide) q554 rfl rfl rfl rfl rfl (by first | decide | simp) ?_
  refine j_ovs ?_
  refine j_re rfl rfl (by rw [j_upd, j_beq_t rfl, cond_true]) ?_
  refine j_aload_n dX6_init_14 rfl ?_
  refine j_iload_n dX6_init_15 rfl ?_
  refine j_putF 2 dX6_init_16 ov_hd in_X6 tyX6_ok nmX6 rfl (by decide) q557 rfl rfl rfl rfl rfl (by first | decide | simp) ?_
  refine j_ovs ?_
  refine j_re rfl rfl (by rw [j_upd, j_beq_t rfl, cond_true]) ?_
  refine j_aload_n dX6_init_19 rfl ?_
  refine j_iload dX6_init_20 rfl ?_
  refine j_putF 3 dX6_init_22 ov_hd in_X6 tyX6_ok nmX6 rfl (by decide) q559 rfl rfl rfl rfl rfl (by first | decide | simp) ?_
  refine j_ovs ?_
  refine j_re rfl rfl (by rw [j_upd, j_beq_t rfl, cond_true]) ?_
  refine j_vret dX6_init_25 rfl (Nat.le_refl _) (Nat.le_refl _) ?_
  exact jr_v rfl
/-- the dial with its word -/
def pD (T : Nat → Nat) (n p : Nat) : pR := if wK T n (sk T n p) = 1 then pDial T n (we T n (sk T n p)) else pF 1 (sk T n p)
def q_dt (res : pR) (n : Nat) (r : Nat → Nat) (h : j_H) : j_Q := fun o r' h' nx' => (res.1 = 0 ∧ o = .returned none ∧ h' 201 = some (rcell (.ref (r' 202)) (r' 203) 0) ∧ h' 202 = some (dcell res.2.2.1.1 res.2.2.1.2.1 res.2.2.1.2.2.1 res.2.2.1.2.2.2) ∧ (∃ f', h' 200 = some (rdC (r 5) n (r 201) res.2.2.2 f')) ∧ ∀ i, kpI i → i ≠ 202 → r' i = r i ∧ (i ≠ 200 → i ≠ 201 → h' i = h i)) ∨ (¬ res.1 = 0 ∧ q_T res.1 res.2.1 r h o r' h' nx')
theorem q_dt.bad {f x n : Nat} {r r' : Nat → Nat} {h h' : j_H} {o : Outcome} {nx' : Nat} (hno : ¬ f = 0) (hq : q_T f x r h o r' h' nx') : q_dt (pF f x) n r h o r' h' nx' := Or.inr ⟨hno, hq⟩
theorem q_dt.good {n e f' kd bs fg m : Nat} {r r' : Nat → Nat} {h h' : j_H} {nx' : Nat} (h1 : h' 201 = some (rcell (.ref (r' 202)) (r' 203) 0)) (h2 : h' 202 = some (dcell kd bs fg m)) (h3 : h' 200 = some (rdC (r 5) n (r 201) e f')) (h4 : ∀ i, kpI i → i ≠ 202 → r' i = r i ∧ (i ≠ 200 → i ≠ 201 → h' i = h i)) : q_dt (0, 0, (kd, bs, fg, m), e) n r h (.returned none) r' h' nx' := Or.inl ⟨rfl, rfl, h1, h2, ⟨f', h3⟩, h4⟩
def q_d1 (res : pR) (n : Nat) (r : Nat → Nat) (h : j_H) : j_Q := fun o r' h' _ => o = .returned none ∧ h' 201 = some (rcell (.ref (r' 202)) (r' 203) 0) ∧ h' 202 = some (dcell res.2.2.1.1 res.2.2.1.2.1 res.2.2.1.2.2.1 res.2.2.1.2.2.2) ∧ (∃ f', h' 200 = some (rdC (r 5) n (r 201) res.2.2.2 f')) ∧ ∀ i, kpI i → i ≠ 202 → r' i = r i ∧ (i ≠ 200 → i ≠ 201 → h' i = h i)
theorem q_d1.isR {res : pR} {n : Nat} {r : Nat → Nat} {h : j_H} : j_isR (q_d1 res n r h) := fun _ _ _ _ hq => ⟨_, hq.1⟩
theorem q_dt.ok {res : pR} {n : Nat} {r r' : Nat → Nat} {h h' : j_H} {o : Outcome} {nx' : Nat} (hok : res.1 = 0) (hq : q_dt res n r h o r' h' nx') : q_d1 res n r h o r' h' nx' := by
  rcases hq with hq | hq
  · exact hq.2
  · exact absurd hok hq.1
theorem q_dt.no {res : pR} {n : Nat} {r r' : Nat → Nat} {h h' : j_H} {o : Outcome} {nx' : Nat} (hok : ¬ res.1 = 0) (hq : q_dt res n r h o r' h' nx') : q_T res.1 res.2.1 r h o r' h' nx' := by
  rcases hq with hq | hq
  · exact absurd hq.1 hok
  · exact hq.2
theorem pow_lim {a b : Nat} (ha : a ≤ 10) (hb : b ≤ 6) : a ^ b ≤ 1000000 :=
  Nat.le_trans (Nat.pow_le_pow_left ha b) (Nat.le_trans (Nat.pow_le_pow_right (by decide) hb) (by decide))
set_option maxHeartbeats 4000000 in
theorem r_dial {l : Launch} {D : va_G} {dT : Nat → ClassId} {H0 : Heap} {r : Nat → Nat} {h : j_H} {nx : Nat} {dTx : Nat → Int32} {T : Nat → Nat} {n a fr : Nat} (h5 : h 5 = some (txC dT dTx)) (hsb : sbR dTx n T) (hn4 : n ≤ 400) (ha : a ≤ n) (h200 : h 200 = some (rdC (r 5) n (r 201) a fr)) (h201 : h 201 = some (rcell .null (r 203) 0)) (h202 : h 202 = none) (h240 : h 240 = none) (hsc : scF h) : MC (gG l D dT H0) yX4_dial cX4_dial 6 none 7 24 3300 [.ref (r 200)] r h nx (q_dt (pD T n a) n r h) := by
  refine MC.ofJ [some (.ref (r 200)), none, none, none, none, none] rfl (Nat.le_of_ble_eq_true rfl) (by decide) ?_
  unfold pD
  have hq0n : (sk T n a) ≤ n := rgE_le ha
  have he0n : (we T n (sk T n a)) ≤ n := rgE_le hq0n
  have hq1n : (sk T n (we T n (sk T n a))) ≤ n := rgE_le he0n
  have he1n : (we T n (sk T n (we T n (sk T n a)))) ≤ n := rgE_le hq1n
  refine j_aload_n dX4_dial_0 rfl ?_
  refine j_callV (r_word h5 hsb hn4 ha h200 hsc) q_word.isR dX4_dial_1 pmX4_word q266 q268 qs2 h200 rfl rfl rfl ⟨Nat.le_of_ble_eq_true rfl, Nat.le_of_ble_eq_true rfl⟩ ⟨Nat.le_of_ble_eq_true rfl, Nat.le_of_ble_eq_true rfl⟩ rfl (Nat.le_of_ble_eq_true rfl) ?_
  rintro v9 r1 h1 nx1 ⟨e9, hfr, h200, h213, gnx1, h214, hg⟩
  cases e9
  have hr200 := (hfr 200 (Or.inl (by decide))).1
  have h5 : h1 5 = some (txC dT dTx) := by rw [(hfr 5 (Or.inl (by decide))).2 (by decide)]; exact h5
  have h201 : h1 201 = some (rcell .null (r1 203) 0) := by rw [(hfr 201 (Or.inl (by decide))).2 (by decide), (hfr 203 (Or.inl (by decide))).1]; exact h201
  have h202 : h1 202 = none := by rw [(hfr 202 (Or.inl (by decide))).2 (by decide)]; exact h202
  have h240 : h1 240 = none := by rw [(hfr 240 (Or.inr (by decide))).2 (by decide)]; exact h240
  have h200 : h1 200 = some (rdC (r1 5) n (r1 201) (we T n (sk T n a)) (sk T n a)) := by rw [(hfr 5 (Or.inl (by decide))).1, (hfr 201 (Or.inl (by decide))).1]; exact h200
  have hw : (we T n (sk T n a)) - (sk T n a) < 2 ^ 30 := by omega
  have h213 : h1 213 = some (strH (r1 214) 0) := h213
  refine j_re (L' := [some (.ref (r1 200)), none, none, none, none, none]) (by rw [hr200]) rfl rfl ?_
  refine j_ldcS dX4_dial_4 (fun _ hs => (hs.2.2.2.1 1 (by decide) (by decide)).2.2.2.2) ?_
  refine j_callVi (b_eq 1 h213 h214 hg hw (by decide) (by decide)) dX4_dial_6 pmJ2_equals q461 q462 q463 h213 rfl rfl rfl ⟨Nat.le_of_ble_eq_true rfl, Nat.le_of_ble_eq_true rfl⟩ ⟨Nat.le_of_ble_eq_true rfl, Nat.le_of_ble_eq_true rfl⟩ rfl (Nat.le_of_ble_eq_true rfl) ?_
  by_cases hwd : wK T n (sk T n a) = 1
  · skip
    rw [if_pos hwd]
    unfold pDial
    refine j_eqi (j_b_t hwd) ?_
    refine j_iconst (v := 1) dX4_dial_9 (by decide) ?_
    refine j_aload_n dX4_dial_10 rfl ?_
    refine j_get 4 dX4_dial_11 h200 in_X4 rfl (by decide) q242 rfl ?_
    refine j_callSv (r_want1 1 (nI (sk T n a))) dX4_dial_14 pmX4_want q469 q470 rfl ⟨Nat.le_of_ble_eq_true rfl, Nat.le_of_ble_eq_true rfl⟩ ⟨Nat.le_of_ble_eq_true rfl, Nat.le_of_ble_eq_true rfl⟩ rfl (Nat.le_of_ble_eq_true rfl) ?_
    refine j_heap (h' := scD h1) (fun i e hi => scD_le hi) ?_
    have hfr : ∀ i, kpI i → r1 i = r i ∧ (i ≠ 200 → scD h1 i = h i) := fun i hi => ⟨(hfr i hi).1, fun h2 => (scD_k hi).trans ((hfr i hi).2 h2)⟩
    have h5 := (scD_k (h := h1) (i := 5) (Or.inl (by decide))).trans h5
    have h200 := (scD_k (h := h1) (i := 200) (Or.inl (by decide))).trans h200
    have h201 := (scD_k (h := h1) (i := 201) (Or.inl (by decide))).trans h201
    have h202 := (scD_k (h := h1) (i := 202) (Or.inl (by decide))).trans h202
    have h240 := (scD_k (h := h1) (i := 240) (Or.inr (by decide))).trans h240
    refine j_aload_n dX4_dial_17 rfl ?_
    refine j_callV (r_word h5 hsb hn4 he0n h200 scD_F) q_word.isR dX4_dial_18 pmX4_word q266 q268 qs2 h200 rfl rfl rfl ⟨Nat.le_of_ble_eq_true rfl, Nat.le_of_ble_eq_true rfl⟩ ⟨Nat.le_of_ble_eq_true rfl, Nat.le_of_ble_eq_true rfl⟩ rfl (Nat.le_of_ble_eq_true rfl) ?_
    rintro v9 r2 h2 nx2 ⟨e9, hfn, h200, h213, gnx2, h214, hg⟩
    cases e9
    have hr200 := (hfn 200 (Or.inl (by decide))).1
    have h5 : h2 5 = some (txC dT dTx) := by rw [(hfn 5 (Or.inl (by decide))).2 (by decide)]; exact h5
    have h201 : h2 201 = some (rcell .null (r2 203) 0) := by rw [(hfn 201 (Or.inl (by decide))).2 (by decide), (hfn 203 (Or.inl (by decide))).1]; exact h201
    have h202 : h2 202 = none := by rw [(hfn 202 (Or.inl (by decide))).2 (by decide)]; exact h202
    have h240 : h2 240 = none := by rw [(hfn 240 (Or.inr (by decide))).2 (by decide)]; exact h240
    have h200 : h2 200 = some (rdC (r2 5) n (r2 201) (we T n (sk T n (we T n (sk T n a)))) (sk T n (we T n (sk T n a)))) := by rw [(hfn 5 (Or.inl (by decide))).1, (hfn 201 (Or.inl (by decide))).1]; exact h200
    have hw : (we T n (sk T n (we T n (sk T n a)))) - (sk T n (we T n (sk T n a))) < 2 ^ 30 := by omega
    have h213 : h2 213 = some (strH (r2 214) 0) := h213
    have hfr : ∀ i, kpI i → r2 i = r i ∧ (i ≠ 200 → h2 i = h i) := fun i hi => ⟨(hfn i hi).1.trans (hfr i hi).1, fun h2 => ((hfn i hi).2 h2).trans ((hfr i hi).2 h2)⟩
    refine j_re (L' := [some (.ref (r2 200)), none, none, none, none, none]) (by rw [hr200]) rfl rfl ?_
    refine j_astore_n dX4_dial_21 (by decide) rfl ?_
    by_cases hkd : 2 ≤ wK T n (sk T n (we T n (sk T n a))) ∧ wK T n (sk T n (we T n (sk T n a))) ≤ 3
    · skip
      rw [if_pos hkd]
      refine j_join (tgt := 45) (fun z => z = 1) (fun v22 hv22 => ?_) (fun kj22 => ?_)
      · skip
        subst hv22
        refine j_iconst (v := 1) dX4_dial_45 (by decide) ?_
        refine j_aload_n dX4_dial_46 rfl ?_
        refine j_get 4 dX4_dial_47 h200 in_X4 rfl (by decide) q242 rfl ?_
        refine j_callSv (r_want1 1 (nI (sk T n (we T n (sk T n a))))) dX4_dial_50 pmX4_want q469 q470 rfl ⟨Nat.le_of_ble_eq_true rfl, Nat.le_of_ble_eq_true rfl⟩ ⟨Nat.le_of_ble_eq_true rfl, Nat.le_of_ble_eq_true rfl⟩ rfl (Nat.le_of_ble_eq_true rfl) ?_
        refine j_re rfl rfl (h' := (j_set h2 200 (rdC (r2 5) n (r2 201) (we T n (sk T n (we T n (sk T n a)))) (sk T n (we T n (sk T n a)))))) (j_set_id h200).symm ?_
        refine j_aload_n dX4_dial_53 rfl ?_
        refine j_iconst (v := 2) dX4_dial_54 (by decide) ?_
        refine j_bipush (v := 10) dX4_dial_55 (by decide) ?_
        by_cases ok1 : (pNum T n (we T n (sk T n (we T n (sk T n a)))) 2 10).1 = 0
        · skip
          refine j_callVi (r_num1 h5 hsb hn4 he1n 2 10 (by decide) ok1) dX4_dial_57 pmX4_number q541 q543 qs4 j_set_self rfl rfl rfl ⟨Nat.le_of_ble_eq_true rfl, Nat.le_of_ble_eq_true rfl⟩ ⟨Nat.le_of_ble_eq_true rfl, Nat.le_of_ble_eq_true rfl⟩ rfl (Nat.le_of_ble_eq_true rfl) ?_
          rw [pNm_1 ok1]
          refine j_istore_n dX4_dial_60 (by decide) rfl ?_
          refine j_aload_n dX4_dial_61 rfl ?_
          refine j_iconst (v := 1) dX4_dial_62 (by decide) ?_
          refine j_bipush (v := 6) dX4_dial_63 (by decide) ?_
          by_cases ok2 : (pNum T n (pNum T n (we T n (sk T n (we T n (sk T n a)))) 2 10).2.2 1 6).1 = 0
          · skip
            refine j_callVi (r_num1 h5 hsb hn4 (pNum_pos he1n ok1).2.2.1 1 6 (by decide) ok2) dX4_dial_65 pmX4_number q541 q543 qs4 j_set_self rfl rfl rfl ⟨Nat.le_of_ble_eq_true rfl, Nat.le_of_ble_eq_true rfl⟩ ⟨Nat.le_of_ble_eq_true rfl, Nat.le_of_ble_eq_true rfl⟩ rfl (Nat.le_of_ble_eq_true rfl) ?_
            rw [pNm_1 ok2]
            refine j_istore_n dX4_dial_68 (by decide) rfl ?_
            refine j_iconst (v := 1) dX4_dial_69 (by decide) ?_
            refine j_istore dX4_dial_70 (by decide) rfl ?_
            refine j_iconst (v := 0) dX4_dial_72 (by decide) ?_
            refine j_istore dX4_dial_73 (by decide) rfl ?_
            obtain ⟨-, -, hbn, hb1, hb2⟩ := pNum_pos he1n ok1
            obtain ⟨-, -, hfn2, hf1, hf2⟩ := pNum_pos hbn ok2
            have hpw := pow_lim hb2 hf2
            refine j_less (L' := [some (.ref (r2 200)), some (.ref (r2 213)), some (.int (nI (pNum T n (we T n (sk T n (we T n (sk T n a)))) 2 10).2.1)), some (.int (nI (pNum T n (pNum T n (we T n (sk T n (we T n (sk T n a)))) 2 10).2.2 1 6).2.1)), some (.int (nI ((pNum T n (we T n (sk T n (we T n (sk T n a)))) 2 10).2.1 ^ 0))), some (.int (nI 0))]) ⟨Or.inr rfl, Or.inr rfl, Or.inr rfl, Or.inr rfl, Or.inr (by rw [Nat.pow_zero]; rfl), Or.inr rfl, trivial⟩ ?_
            refine j_lp1 (fun (_ : Nat) => (j_set h2 200 (rdC (r2 5) n (r2 201) (pNum T n (pNum T n (we T n (sk T n (we T n (sk T n a)))) 2 10).2.2 1 6).2.2 (sk T n (pNum T n (we T n (sk T n (we T n (sk T n a)))) 2 10).2.2)))) (fun k => [some (.ref (r2 200)), some (.ref (r2 213)), some (.int (nI (pNum T n (we T n (sk T n (we T n (sk T n a)))) 2 10).2.1)), some (.int (nI (pNum T n (pNum T n (we T n (sk T n (we T n (sk T n a)))) 2 10).2.2 1 6).2.1)), some (.int (nI ((pNum T n (we T n (sk T n (we T n (sk T n a)))) 2 10).2.1 ^ k))), some (.int (nI k))]) (fun k => k ≤ (pNum T n (pNum T n (we T n (sk T n (we T n (sk T n a)))) 2 10).2.2 1 6).2.1) (fun k => (pNum T n (pNum T n (we T n (sk T n (we T n (sk T n a)))) 2 10).2.2 1 6).2.1 - k) ?_ 0 (Nat.zero_le _)
            intro k hk ih
            refine j_iload dX4_dial_75 rfl ?_
            refine j_iload_n dX4_dial_77 rfl ?_
            refine j_icmp_ge (tgt := 93) dX4_dial_78 (by decide) (fun c78 => ?_) (fun c78 => ?_)
            · skip
              have hke : k = (pNum T n (pNum T n (we T n (sk T n (we T n (sk T n a)))) 2 10).2.2 1 6).2.1 := by
                have := (nI_leI (by omega) (by omega)).mp c78
                omega
              subst hke
              by_cases hmn : (pNum T n (we T n (sk T n (we T n (sk T n a)))) 2 10).2.1 ^ (pNum T n (pNum T n (we T n (sk T n (we T n (sk T n a)))) 2 10).2.2 1 6).2.1 ≤ 100
              · skip
                rw [if_pos hmn]
                refine j_iload dX4_dial_93 rfl ?_
                refine j_bipush (v := 100) dX4_dial_95 (by decide) ?_
                refine j_icmp_gt (tgt := 104) dX4_dial_97 (by decide) (fun c97 => absurd c97 (show ¬ nI 100 < nI _ from nI_nlt hmn (by decide))) (fun c97 => ?_)
                refine j_iconst (v := 1) dX4_dial_100 (by decide) ?_
                refine j_goto (tgt := 105) dX4_dial_101 (by decide) ?_
                refine j_iconst (v := 2) dX4_dial_105 (by decide) ?_
                refine j_aload_n dX4_dial_106 rfl ?_
                refine j_get 4 dX4_dial_107 j_set_self in_X4 rfl (by decide) q242 rfl ?_
                refine j_callSv (r_want1 2 (nI (sk T n (pNum T n (we T n (sk T n (we T n (sk T n a)))) 2 10).2.2))) dX4_dial_110 pmX4_want q469 q470 rfl ⟨Nat.le_of_ble_eq_true rfl, Nat.le_of_ble_eq_true rfl⟩ ⟨Nat.le_of_ble_eq_true rfl, Nat.le_of_ble_eq_true rfl⟩ rfl (Nat.le_of_ble_eq_true rfl) ?_
                obtain ⟨r3, hr3, q3⟩ : ∃ r3 : Nat → Nat, (∀ i, i ≠ 202 → r3 i = r2 i) ∧ r3 202 = nx2 := ⟨va_up r2 202 nx2, fun i hi => va_up_ne _ _ hi, va_up_self _ _ _⟩
                refine j_sc (r' := r3) (fun i e hi => hr3 i (fun z => by rw [z, j_set_ne (by decide), h202] at hi; cases hi)) ?_
                refine j_less (L' := [some (.ref (r2 200)), some (.ref (r2 213)), some (.int (nI (pNum T n (we T n (sk T n (we T n (sk T n a)))) 2 10).2.1)), some (.int (nI (pNum T n (pNum T n (we T n (sk T n (we T n (sk T n a)))) 2 10).2.2 1 6).2.1)), some (.int (nI ((pNum T n (we T n (sk T n (we T n (sk T n a)))) 2 10).2.1 ^ (pNum T n (pNum T n (we T n (sk T n (we T n (sk T n a)))) 2 10).2.2 1 6).2.1))), none]) ⟨Or.inr rfl, Or.inr rfl, Or.inr rfl, Or.inr rfl, Or.inr rfl, Or.inl rfl, trivial⟩ ?_
                refine j_re (L' := [some (.ref (r3 200)), some (.ref (r3 213)), some (.int (nI (pNum T n (we T n (sk T n (we T n (sk T n a)))) 2 10).2.1)), some (.int (nI (pNum T n (pNum T n (we T n (sk T n (we T n (sk T n a)))) 2 10).2.2 1 6).2.1)), some (.int (nI ((pNum T n (we T n (sk T n (we T n (sk T n a)))) 2 10).2.1 ^ (pNum T n (pNum T n (we T n (sk T n (we T n (sk T n a)))) 2 10).2.2 1 6).2.1))), none]) (h' := (j_set h2 200 (rdC (r3 5) n (r3 201) (pNum T n (pNum T n (we T n (sk T n (we T n (sk T n a)))) 2 10).2.2 1 6).2.2 (sk T n (pNum T n (we T n (sk T n (we T n (sk T n a)))) 2 10).2.2)))) (by rw [hr3 200 (by decide), hr3 213 (by decide)]) rfl (by rw [hr3 5 (by decide), hr3 201 (by decide)]) ?_
                have h213 : h2 213 = some (strH (r3 214) 0) := by rw [hr3 214 (by decide)]; exact h213
                have h201 : h2 201 = some (rcell .null (r3 203) 0) := by rw [hr3 203 (by decide)]; exact h201
                refine j_aload_n dX4_dial_113 rfl ?_
                refine j_get 2 dX4_dial_114 j_set_self in_X4 rfl (by decide) q240 rfl ?_
                refine j_new (ci := 6) (fs := [.int 0, .int 0, .int 0, .int 0]) 202 q3 dX4_dial_117 in_X6 tyX6_ok rfl q546 q547 q79 (fun j hj => by
                  have hj3 : j = 0 ∨ j = 1 ∨ j = 2 ∨ j = 3 := by have hj4 : j < 4 := hj; omega
                  rcases hj3 with rfl | rfl | rfl | rfl <;> rfl) (Nat.le_of_ble_eq_true rfl) (Nat.le_of_ble_eq_true rfl) ?_
                refine j_re rfl rfl (h' := (j_set (j_set h2 202 (.inr (6, [.int 0, .int 0, .int 0, .int 0]))) 200 (rdC (r3 5) n (r3 201) (pNum T n (pNum T n (we T n (sk T n (we T n (sk T n a)))) 2 10).2.2 1 6).2.2 (sk T n (pNum T n (we T n (sk T n (we T n (sk T n a)))) 2 10).2.2)))) (j_set_comm _ _ _ (by decide)) ?_
                have h213d : (j_set (j_set h2 202 (.inr (6, [.int 0, .int 0, .int 0, .int 0]))) 200 (rdC (r3 5) n (r3 201) (pNum T n (pNum T n (we T n (sk T n (we T n (sk T n a)))) 2 10).2.2 1 6).2.2 (sk T n (pNum T n (we T n (sk T n (we T n (sk T n a)))) 2 10).2.2))) 213 = some (strH (r3 214) 0) := by rw [j_set_ne (by decide), j_set_ne (by decide)]; exact h213
                have h214d : (j_set (j_set h2 202 (.inr (6, [.int 0, .int 0, .int 0, .int 0]))) 200 (rdC (r3 5) n (r3 201) (pNum T n (pNum T n (we T n (sk T n (we T n (sk T n a)))) 2 10).2.2 1 6).2.2 (sk T n (pNum T n (we T n (sk T n (we T n (sk T n a)))) 2 10).2.2))) 214 = some (byC dT ((we T n (sk T n (we T n (sk T n a)))) - (sk T n (we T n (sk T n a)))) gnx2) := by rw [j_set_ne (by decide), j_set_ne (by decide)]; exact h214
                refine j_dup dX4_dial_120 rfl ?_
                refine j_join (tgt := 135) (fun z => z = nI (wK T n (sk T n (we T n (sk T n a))) - 2)) (fun v121 hv121 => ?_) (fun kj121 => ?_)
                · skip
                  subst hv121
                  refine j_iload_n dX4_dial_135 rfl ?_
                  refine j_iload_n dX4_dial_136 rfl ?_
                  refine j_iload dX4_dial_137 rfl ?_
                  refine j_callIv (c_iDial 202 (nI (wK T n (sk T n (we T n (sk T n a))) - 2)) (nI (pNum T n (we T n (sk T n (we T n (sk T n a)))) 2 10).2.1) (nI (pNum T n (pNum T n (we T n (sk T n (we T n (sk T n a)))) 2 10).2.2 1 6).2.1) (nI ((pNum T n (we T n (sk T n (we T n (sk T n a)))) 2 10).2.1 ^ (pNum T n (pNum T n (we T n (sk T n (we T n (sk T n a)))) 2 10).2.2 1 6).2.1)) (by rw [j_set_ne (by decide)]; exact j_set_self)) dX4_dial_139 pmX6_init q548 q549 rfl rfl ⟨Nat.le_of_ble_eq_true rfl, Nat.le_of_ble_eq_true rfl⟩ ⟨Nat.le_of_ble_eq_true rfl, Nat.le_of_ble_eq_true rfl⟩ rfl (Nat.le_of_ble_eq_true rfl) ?_
                  refine j_re rfl rfl (h' := (j_set (j_set h2 202 (.inr (6, [.int (nI (wK T n (sk T n (we T n (sk T n a))) - 2)), .int (nI (pNum T n (we T n (sk T n (we T n (sk T n a)))) 2 10).2.1), .int (nI (pNum T n (pNum T n (we T n (sk T n (we T n (sk T n a)))) 2 10).2.2 1 6).2.1), .int (nI ((pNum T n (we T n (sk T n (we T n (sk T n a)))) 2 10).2.1 ^ (pNum T n (pNum T n (we T n (sk T n (we T n (sk T n a)))) 2 10).2.2 1 6).2.1))]))) 200 (rdC (r3 5) n (r3 201) (pNum T n (pNum T n (we T n (sk T n (we T n (sk T n a)))) 2 10).2.2 1 6).2.2 (sk T n (pNum T n (we T n (sk T n (we T n (sk T n a)))) 2 10).2.2)))) (by
                    funext i9
                    by_cases e202 : i9 = 202
                    · subst e202; rfl
                    by_cases e200 : i9 = 200
                    · subst e200; rfl
                    simp only [j_ov, j_set, j_beq_f e202, j_beq_f e200, cond_false]) ?_
                  refine j_putN 0 dX4_dial_142 (by rw [j_set_ne (by decide), j_set_ne (by decide)]; exact h201) in_X1 tyX1_ok nmX1 rfl (by decide) (fun _ hs => hs.1 _ qn105) rfl rfl rfl (by first | decide | simp) ?_
                  refine j_re rfl rfl (h' := (j_set (j_set (j_set h2 202 (.inr (6, [.int (nI (wK T n (sk T n (we T n (sk T n a))) - 2)), .int (nI (pNum T n (we T n (sk T n (we T n (sk T n a)))) 2 10).2.1), .int (nI (pNum T n (pNum T n (we T n (sk T n (we T n (sk T n a)))) 2 10).2.2 1 6).2.1), .int (nI ((pNum T n (we T n (sk T n (we T n (sk T n a)))) 2 10).2.1 ^ (pNum T n (pNum T n (we T n (sk T n (we T n (sk T n a)))) 2 10).2.2 1 6).2.1))]))) 201 (rcell (.ref (r3 202)) (r3 203) 0)) 200 (rdC (r3 5) n (r3 201) (pNum T n (pNum T n (we T n (sk T n (we T n (sk T n a)))) 2 10).2.2 1 6).2.2 (sk T n (pNum T n (we T n (sk T n (we T n (sk T n a)))) 2 10).2.2)))) (by
                    funext i9
                    by_cases e200 : i9 = 200
                    · subst e200; rfl
                    by_cases e201 : i9 = 201
                    · subst e201; rfl
                    by_cases e202 : i9 = 202
                    · subst e202; rfl
                    simp only [j_ov, j_set, j_beq_f e200, j_beq_f e201, j_beq_f e202, cond_false]) ?_
                  refine j_aload_n dX4_dial_145 rfl ?_
                  by_cases ok3 : (pEnd T n (pNum T n (pNum T n (we T n (sk T n (we T n (sk T n a)))) 2 10).2.2 1 6).2.2).1 = 0
                  · skip
                    refine j_callVv (r_end1 (by rw [j_set_ne (by decide), j_set_ne (by decide)]; exact h5) hsb hn4 hfn2 ok3) dX4_dial_146 pmX4_end q571 q573 qs5 j_set_self rfl rfl rfl ⟨Nat.le_of_ble_eq_true rfl, Nat.le_of_ble_eq_true rfl⟩ ⟨Nat.le_of_ble_eq_true rfl, Nat.le_of_ble_eq_true rfl⟩ rfl (Nat.le_of_ble_eq_true rfl) ?_
                    rw [if_pos ok3]
                    refine j_vret dX4_dial_149 rfl (Nat.le_of_ble_eq_true rfl) (Nat.le_of_ble_eq_true rfl) ?_
                    refine q_dt.good (f' := sk T n (pNum T n (we T n (sk T n (we T n (sk T n a)))) 2 10).2.2) ?_ ?_ ?_ (fun i hi hi2 => ⟨?_, fun hi3 hi4 => ?_⟩)
                    · rw [j_set_ne (by decide), j_set_self]
                    · rw [j_set_ne (by decide), j_set_ne (by decide), j_set_self]
                    · rw [j_set_self, hr3 5 (by decide), hr3 201 (by decide), (hfr 5 (Or.inl (by decide))).1, (hfr 201 (Or.inl (by decide))).1]
                    · rw [hr3 i hi2]; exact (hfr i hi).1
                    · rw [j_set_ne hi3, j_set_ne hi4, j_set_ne hi2]; exact (hfr i hi).2 hi3
                  · skip
                    rw [if_neg ok3]
                    have hno := ok3
                    refine j_callVT (s_end0 (by rw [j_set_ne (by decide), j_set_ne (by decide)]; exact h5) hsb hn4 hfn2 ok3 (by rw [j_set_ne (by decide), j_set_ne (by decide)]; exact h240)) q_T.isT rfl dX4_dial_146 pmX4_end q571 q573 qs5 j_set_self rfl rfl rfl ⟨(Nat.le_of_ble_eq_true rfl), (Nat.le_of_ble_eq_true rfl)⟩ ⟨(Nat.le_of_ble_eq_true rfl), (Nat.le_of_ble_eq_true rfl)⟩ rfl (Nat.le_of_ble_eq_true rfl) (Nat.le_of_ble_eq_true rfl) (Nat.le_of_ble_eq_true rfl) ?_
                    intro v9 r9 h9 nx9 hq9
                    exact q_dt.bad hno (hq9.up rfl rfl (fun i hi => ⟨(hr3 i (by omega)).trans (hfr i (by unfold kpI; omega)).1, (by rw [j_set_ne (by omega), j_set_ne (by omega), j_set_ne (by omega)]; exact (hfr i (by unfold kpI; omega)).2 (by omega))⟩))
                · skip
                  refine j_aload_n dX4_dial_121 rfl ?_
                  refine j_ldcS dX4_dial_122 (fun _ hs => (hs.2.2.2.1 2 (by decide) (by decide)).2.2.2.2) ?_
                  refine j_callVi (b_eq 2 h213d h214d hg hw (by decide) (by decide)) dX4_dial_124 pmJ2_equals q461 q462 q463 h213d rfl rfl rfl ⟨Nat.le_of_ble_eq_true rfl, Nat.le_of_ble_eq_true rfl⟩ ⟨Nat.le_of_ble_eq_true rfl, Nat.le_of_ble_eq_true rfl⟩ rfl (Nat.le_of_ble_eq_true rfl) ?_
                  refine j_ifb_eq (tgt := 134) dX4_dial_127 (by decide) (fun c127 => ?_) (fun c127 => ?_)
                  · skip
                    have hj : (1 : Int32) = nI (wK T n (sk T n (we T n (sk T n a))) - 2) := by
                      have h8 : ¬ wK T n (sk T n (we T n (sk T n a))) = 2 := c127
                      rw [show wK T n (sk T n (we T n (sk T n a))) = 3 by omega]; rfl
                    refine j_iconst (v := 1) dX4_dial_134 (by decide) ?_
                    exact kj121 _ hj
                  · skip
                    have hj : (0 : Int32) = nI (wK T n (sk T n (we T n (sk T n a))) - 2) := by
                      have h8 : wK T n (sk T n (we T n (sk T n a))) = 2 := c127
                      rw [h8]; rfl
                    refine j_iconst (v := 0) dX4_dial_130 (by decide) ?_
                    refine j_goto (tgt := 135) dX4_dial_131 (by decide) ?_
                    exact kj121 _ hj
              · skip
                rw [if_neg hmn]
                have hno : ¬ (2 : Nat) = 0 := by decide
                refine j_iload dX4_dial_93 rfl ?_
                refine j_bipush (v := 100) dX4_dial_95 (by decide) ?_
                refine j_icmp_gt (tgt := 104) dX4_dial_97 (by decide) (fun c97 => ?_) (fun c97 => absurd (show nI 100 < nI _ from nI_lt (by omega) (by omega)) c97)
                refine j_iconst (v := 0) dX4_dial_104 (by decide) ?_
                refine j_iconst (v := 2) dX4_dial_105 (by decide) ?_
                refine j_aload_n dX4_dial_106 rfl ?_
                refine j_get 4 dX4_dial_107 j_set_self in_X4 rfl (by decide) q242 rfl ?_
                refine j_callST (s_want0 2 (sk T n (pNum T n (we T n (sk T n (we T n (sk T n a)))) 2 10).2.2) (by rw [j_set_ne (by decide)]; exact h240)) q_T.isT rfl dX4_dial_110 pmX4_want q469 q470 rfl ⟨(Nat.le_of_ble_eq_true rfl), (Nat.le_of_ble_eq_true rfl)⟩ ⟨(Nat.le_of_ble_eq_true rfl), (Nat.le_of_ble_eq_true rfl)⟩ rfl (Nat.le_of_ble_eq_true rfl) (Nat.le_of_ble_eq_true rfl) (Nat.le_of_ble_eq_true rfl) ?_
                intro v9 r9 h9 nx9 hq9
                exact q_dt.bad hno (hq9.up rfl rfl (fun i hi => ⟨(hfr i (by unfold kpI; omega)).1, (by rw [j_set_ne (by omega)]; exact (hfr i (by unfold kpI; omega)).2 (by omega))⟩))
            · skip
              have hkl : k < (pNum T n (pNum T n (we T n (sk T n (we T n (sk T n a)))) 2 10).2.2 1 6).2.1 := Nat.lt_of_not_le (fun z => c78 (nI_le z (by omega)))
              refine j_iload dX4_dial_81 rfl ?_
              refine j_iload_n dX4_dial_83 rfl ?_
              refine j_imul dX4_dial_84 ?_
              refine j_eqi (show _ = nI ((pNum T n (we T n (sk T n (we T n (sk T n a)))) 2 10).2.1 ^ (k + 1)) by rw [pk_mul, Nat.pow_succ]) ?_
              refine j_istore dX4_dial_85 (by decide) rfl ?_
              refine j_iinc dX4_dial_87 rfl (by decide) rfl ?_
              refine j_goto (tgt := 75) dX4_dial_90 (by decide) ?_
              refine j_less (L' := [some (.ref (r2 200)), some (.ref (r2 213)), some (.int (nI (pNum T n (we T n (sk T n (we T n (sk T n a)))) 2 10).2.1)), some (.int (nI (pNum T n (pNum T n (we T n (sk T n (we T n (sk T n a)))) 2 10).2.2 1 6).2.1)), some (.int (nI ((pNum T n (we T n (sk T n (we T n (sk T n a)))) 2 10).2.1 ^ (k + 1)))), some (.int (nI (k + 1)))]) ⟨Or.inr rfl, Or.inr rfl, Or.inr rfl, Or.inr rfl, Or.inr rfl, Or.inr (by rw [← nI_inc]), trivial⟩ ?_
              exact ih (k + 1) (by omega) (by omega)
          · skip
            rw [pNm_0 ok2]
            have hno := ok2
            refine j_callVT (s_num0 h5 hsb hn4 (pNum_pos he1n ok1).2.2.1 1 6 (by decide) (by decide) ok2 h240) q_T.isT rfl dX4_dial_65 pmX4_number q541 q543 qs4 j_set_self rfl rfl rfl ⟨(Nat.le_of_ble_eq_true rfl), (Nat.le_of_ble_eq_true rfl)⟩ ⟨(Nat.le_of_ble_eq_true rfl), (Nat.le_of_ble_eq_true rfl)⟩ rfl (Nat.le_of_ble_eq_true rfl) (Nat.le_of_ble_eq_true rfl) (Nat.le_of_ble_eq_true rfl) ?_
            intro v9 r9 h9 nx9 hq9
            exact q_dt.bad hno (hq9.up rfl rfl (fun i hi => ⟨(hfr i (by unfold kpI; omega)).1, (by rw [j_set_ne (by omega)]; exact (hfr i (by unfold kpI; omega)).2 (by omega))⟩))
        · skip
          rw [pNm_0 ok1]
          have hno := ok1
          refine j_callVT (s_num0 h5 hsb hn4 he1n 2 10 (by decide) (by decide) ok1 h240) q_T.isT rfl dX4_dial_57 pmX4_number q541 q543 qs4 j_set_self rfl rfl rfl ⟨(Nat.le_of_ble_eq_true rfl), (Nat.le_of_ble_eq_true rfl)⟩ ⟨(Nat.le_of_ble_eq_true rfl), (Nat.le_of_ble_eq_true rfl)⟩ rfl (Nat.le_of_ble_eq_true rfl) (Nat.le_of_ble_eq_true rfl) (Nat.le_of_ble_eq_true rfl) ?_
          intro v9 r9 h9 nx9 hq9
          exact q_dt.bad hno (hq9.up rfl rfl (fun i hi => ⟨(hfr i (by unfold kpI; omega)).1, (by rw [j_set_ne (by omega)]; exact (hfr i (by unfold kpI; omega)).2 (by omega))⟩))
      · skip
        refine j_aload_n dX4_dial_22 rfl ?_
        refine j_ldcS dX4_dial_23 (fun _ hs => (hs.2.2.2.1 2 (by decide) (by decide)).2.2.2.2) ?_
        refine j_callVi (b_eq 2 h213 h214 hg hw (by decide) (by decide)) dX4_dial_25 pmJ2_equals q461 q462 q463 h213 rfl rfl rfl ⟨Nat.le_of_ble_eq_true rfl, Nat.le_of_ble_eq_true rfl⟩ ⟨Nat.le_of_ble_eq_true rfl, Nat.le_of_ble_eq_true rfl⟩ rfl (Nat.le_of_ble_eq_true rfl) ?_
        refine j_ifb_ne (tgt := 40) dX4_dial_28 (by decide) (fun c28 => ?_) (fun c28 => ?_)
        · skip
          refine j_iconst (v := 1) dX4_dial_40 (by decide) ?_
          refine j_goto (tgt := 45) dX4_dial_41 (by decide) ?_
          exact kj22 _ rfl
        · skip
          have c28 : ¬ wK T n (sk T n (we T n (sk T n a))) = 2 := c28
          refine j_aload_n dX4_dial_31 rfl ?_
          refine j_ldcS dX4_dial_32 (fun _ hs => (hs.2.2.2.1 3 (by decide) (by decide)).2.2.2.2) ?_
          refine j_callVi (b_eq 3 h213 h214 hg hw (by decide) (by decide)) dX4_dial_34 pmJ2_equals q461 q462 q463 h213 rfl rfl rfl ⟨Nat.le_of_ble_eq_true rfl, Nat.le_of_ble_eq_true rfl⟩ ⟨Nat.le_of_ble_eq_true rfl, Nat.le_of_ble_eq_true rfl⟩ rfl (Nat.le_of_ble_eq_true rfl) ?_
          refine j_ifb_eq (tgt := 44) dX4_dial_37 (by decide) (fun c37 => absurd (show wK T n (sk T n (we T n (sk T n a))) = 3 by omega) c37) (fun c37 => ?_)
          refine j_iconst (v := 1) dX4_dial_40 (by decide) ?_
          refine j_goto (tgt := 45) dX4_dial_41 (by decide) ?_
          exact kj22 _ rfl
    · skip
      rw [if_neg hkd]
      have hno : ¬ (1 : Nat) = 0 := by decide
      refine j_aload_n dX4_dial_22 rfl ?_
      refine j_ldcS dX4_dial_23 (fun _ hs => (hs.2.2.2.1 2 (by decide) (by decide)).2.2.2.2) ?_
      refine j_callVi (b_eq 2 h213 h214 hg hw (by decide) (by decide)) dX4_dial_25 pmJ2_equals q461 q462 q463 h213 rfl rfl rfl ⟨Nat.le_of_ble_eq_true rfl, Nat.le_of_ble_eq_true rfl⟩ ⟨Nat.le_of_ble_eq_true rfl, Nat.le_of_ble_eq_true rfl⟩ rfl (Nat.le_of_ble_eq_true rfl) ?_
      refine j_ifb_ne (tgt := 40) dX4_dial_28 (by decide) (fun c28 => absurd c28 (show ¬ wK T n (sk T n (we T n (sk T n a))) = 2 by omega)) (fun c28 => ?_)
      refine j_aload_n dX4_dial_31 rfl ?_
      refine j_ldcS dX4_dial_32 (fun _ hs => (hs.2.2.2.1 3 (by decide) (by decide)).2.2.2.2) ?_
      refine j_callVi (b_eq 3 h213 h214 hg hw (by decide) (by decide)) dX4_dial_34 pmJ2_equals q461 q462 q463 h213 rfl rfl rfl ⟨Nat.le_of_ble_eq_true rfl, Nat.le_of_ble_eq_true rfl⟩ ⟨Nat.le_of_ble_eq_true rfl, Nat.le_of_ble_eq_true rfl⟩ rfl (Nat.le_of_ble_eq_true rfl) ?_
      refine j_ifb_eq (tgt := 44) dX4_dial_37 (by decide) (fun c37 => ?_) (fun c37 => absurd c37 (show ¬ wK T n (sk T n (we T n (sk T n a))) = 3 by omega))
      refine j_iconst (v := 0) dX4_dial_44 (by decide) ?_
      refine j_iconst (v := 1) dX4_dial_45 (by decide) ?_
      refine j_aload_n dX4_dial_46 rfl ?_
      refine j_get 4 dX4_dial_47 h200 in_X4 rfl (by decide) q242 rfl ?_
      refine j_callST (s_want0 1 (sk T n (we T n (sk T n a))) h240) q_T.isT rfl dX4_dial_50 pmX4_want q469 q470 rfl ⟨(Nat.le_of_ble_eq_true rfl), (Nat.le_of_ble_eq_true rfl)⟩ ⟨(Nat.le_of_ble_eq_true rfl), (Nat.le_of_ble_eq_true rfl)⟩ rfl (Nat.le_of_ble_eq_true rfl) (Nat.le_of_ble_eq_true rfl) (Nat.le_of_ble_eq_true rfl) ?_
      intro v9 r9 h9 nx9 hq9
      exact q_dt.bad hno (hq9.up rfl rfl (fun i hi => ⟨(hfr i (by unfold kpI; omega)).1, (by exact (hfr i (by unfold kpI; omega)).2 (by omega))⟩))
  · skip
    rw [if_neg hwd]
    have hno : ¬ (1 : Nat) = 0 := by decide
    refine j_eqi (j_b_f hwd) ?_
    refine j_iconst (v := 1) dX4_dial_9 (by decide) ?_
    refine j_aload_n dX4_dial_10 rfl ?_
    refine j_get 4 dX4_dial_11 h200 in_X4 rfl (by decide) q242 rfl ?_
    refine j_callST (s_want0 1 (sk T n a) h240) q_T.isT rfl dX4_dial_14 pmX4_want q469 q470 rfl ⟨(Nat.le_of_ble_eq_true rfl), (Nat.le_of_ble_eq_true rfl)⟩ ⟨(Nat.le_of_ble_eq_true rfl), (Nat.le_of_ble_eq_true rfl)⟩ rfl (Nat.le_of_ble_eq_true rfl) (Nat.le_of_ble_eq_true rfl) (Nat.le_of_ble_eq_true rfl) ?_
    intro v9 r9 h9 nx9 hq9
    exact q_dt.bad hno (hq9.up rfl rfl (fun i hi => ⟨(hfr i (by unfold kpI; omega)).1, (by exact (hfr i (by unfold kpI; omega)).2 (by omega))⟩))
