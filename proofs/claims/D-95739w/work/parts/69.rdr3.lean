set_option maxRecDepth 100000
theorem dvm_step {T : Nat → Nat} {q k : Nat} (hx : 10 * dvm T q k + (T (q + k) - 48) < 2 ^ 31) : (if nI (10 * dvm T q k + (T (q + k) - 48)) < 9999 then nI (10 * dvm T q k + (T (q + k) - 48)) else 9999) = nI (dvm T q (k + 1)) := by
  rw [dvm, show (9999 : Int32) = nI 9999 from rfl]
  by_cases h : 9999 < 10 * dvm T q k + (T (q + k) - 48)
  · rw [if_pos h, if_neg (nI_nlt (Nat.le_of_lt h) hx)]
  · rw [if_neg h]
    by_cases h8 : 10 * dvm T q k + (T (q + k) - 48) < 9999
    · rw [if_pos (nI_lt h8 (by decide))]
    · rw [if_neg (nI_nlt (by omega) hx), show 10 * dvm T q k + (T (q + k) - 48) = 9999 by omega]
set_option maxHeartbeats 4000000 in
theorem r_num1 {l : Launch} {D : va_G} {dT : Nat → ClassId} {H0 : Heap} {r : Nat → Nat} {h : j_H} {nx : Nat} {dTx : Nat → Int32} {T : Nat → Nat} {n td a fr : Nat} (h5 : h 5 = some (txC dT dTx)) (hsb : sbR dTx n T) (hn4 : n ≤ 400) (ha : a ≤ n) (lo hi : Nat) (hhi : hi < 2 ^ 31) (hok : (pNum T n a lo hi).1 = 0) : MC (gG l D dT H0) yX4_number cX4_number 4 (some .int) 5 0 0 [.ref (r 200), .int (nI lo), .int (nI hi)] r (j_set h 200 (rdC (r 5) n td a fr)) nx (jq_i (nI (pNum T n a lo hi).2.1) r (j_set h 200 (rdC (r 5) n td (pNum T n a lo hi).2.2 (sk T n a))) nx) := by
  have hqn : sk T n a ≤ n := rgE_le ha
  have hdn : de T n (sk T n a) ≤ n := rgE_le hqn
  have hdg : sk T n a ≤ de T n (sk T n a) := rgE_ge
  have hlt : sk T n a < de T n (sk T n a) := by
    refine Classical.byContradiction (fun z => ?_)
    unfold pNum at hok
    rw [if_neg z] at hok
    exact absurd hok (by intro y; cases y)
  have hcd : de T n (sk T n a) ≤ sk T n a + 3 ∧ lo ≤ dv T (sk T n a) (de T n (sk T n a) - sk T n a) ∧ dv T (sk T n a) (de T n (sk T n a) - sk T n a) ≤ hi := by
    refine Classical.byContradiction (fun z => ?_)
    unfold pNum at hok
    rw [if_pos hlt, if_neg z] at hok
    exact absurd hok (by intro y; cases y)
  have hpn : (pNum T n a lo hi) = (0, dv T (sk T n a) (de T n (sk T n a) - sk T n a), de T n (sk T n a)) := by unfold pNum; rw [if_pos hlt, if_pos hcd]
  have hql : sk T n a < n := by omega
  have hdi := (rgE_pos (lo := 48) (hi := 57) (T := T) hql).mp hlt
  rw [hpn]
  obtain ⟨q, hq⟩ : ∃ q, sk T n a = q := ⟨_, rfl⟩
  have hT := (hsb _ hql).2
  rw [hq] at hqn hdn hdg hlt hcd hql hdi hT ⊢
  refine MC.ofJ [some (.ref (r 200)), some (.int (nI lo)), some (.int (nI hi)), none] rfl (Nat.le_of_ble_eq_true rfl) (by decide) ?_
  refine j_aload_n dX4_number_0 rfl ?_
  refine j_callVi (r_here h5 hsb hn4 ha) dX4_number_1 pmX4_here q258 q260 qs0 j_set_self rfl rfl rfl ⟨Nat.le_of_ble_eq_true rfl, Nat.le_of_ble_eq_true rfl⟩ ⟨Nat.le_of_ble_eq_true rfl, Nat.le_of_ble_eq_true rfl⟩ rfl (Nat.le_of_ble_eq_true rfl) ?_
  rw [hq]
  rw [if_pos hql]
  refine j_bipush (v := 48) dX4_number_4 (by decide) ?_
  refine j_bipush (v := 57) dX4_number_6 (by decide) ?_
  refine j_callSNi (c_X0_isIn _ _ _) dX4_number_8 pmX0_isIn (fun _ hs => hs.1 _ qn301) q221 rfl ⟨Nat.le_of_ble_eq_true rfl, Nat.le_of_ble_eq_true rfl⟩ ⟨Nat.le_of_ble_eq_true rfl, Nat.le_of_ble_eq_true rfl⟩ rfl (Nat.le_of_ble_eq_true rfl) ?_
  refine j_eqi (j_b_t ((in_nN hT (by decide) (by decide)).mpr hdi)) ?_
  refine j_iconst (v := 1) dX4_number_11 (by decide) ?_
  refine j_aload_n dX4_number_12 rfl ?_
  refine j_get 3 dX4_number_13 j_set_self in_X4 rfl (by decide) q241 rfl ?_
  refine j_callSv (r_want1 1 (nI q)) dX4_number_16 pmX4_want q469 q470 rfl ⟨Nat.le_of_ble_eq_true rfl, Nat.le_of_ble_eq_true rfl⟩ ⟨Nat.le_of_ble_eq_true rfl, Nat.le_of_ble_eq_true rfl⟩ rfl (Nat.le_of_ble_eq_true rfl) ?_
  refine j_aload_n dX4_number_19 rfl ?_
  refine j_aload_n dX4_number_20 rfl ?_
  refine j_get 3 dX4_number_21 j_set_self in_X4 rfl (by decide) q241 rfl ?_
  refine j_put 4 dX4_number_24 j_set_self in_X4 tyX4_ok nmX4 rfl (by decide) q242 rfl rfl rfl (by first | decide | simp) ?_
  refine j_re rfl rfl (h' := (j_set h 200 (rdC (r 5) n td q q))) j_set2 ?_
  refine j_iconst (v := 0) dX4_number_27 (by decide) ?_
  refine j_istore_n dX4_number_28 (by decide) rfl ?_
  refine j_cut (tgt := 96) (fun k => q + k = de T n q) (fun k => (j_set h 200 (rdC (r 5) n td (q + k) q))) (fun k => [some (.ref (r 200)), some (.int (nI lo)), some (.int (nI hi)), some (.int (nI (dvm T q k)))]) ?_ (fun kc29 => ?_)
  · skip
    intro k hk
    have hke : de T n q - q = k := by omega
    rw [hke] at hcd ⊢
    rw [← hk]
    have hdv : dvm T q k = dv T q k := dvm_eq k (by omega) (fun i hi => rgE_in (n := n) (p := q) (by omega) (by show q + i < de T n q; omega))
    rw [hdv]
    have hvl : dv T q k ≤ 9999 := by rw [← hdv]; exact dvm_le k
    refine j_aload_n dX4_number_96 rfl ?_
    refine j_get 3 dX4_number_97 j_set_self in_X4 rfl (by decide) q241 rfl ?_
    refine j_aload_n dX4_number_100 rfl ?_
    refine j_get 4 dX4_number_101 j_set_self in_X4 rfl (by decide) q242 rfl ?_
    refine j_iconst (v := 3) dX4_number_104 (by decide) ?_
    refine j_iadd dX4_number_105 ?_
    refine j_eqi (show _ = nI (q + 3) from nI_add q 3) ?_
    refine j_icmp_gt (tgt := 122) dX4_number_106 (by decide) (fun c106 => absurd c106 (fun z => absurd ((nI_ltI (by omega) (by omega)).mp z) (by omega))) (fun c106 => ?_)
    refine j_iload_n dX4_number_109 rfl ?_
    refine j_iload_n dX4_number_110 rfl ?_
    refine j_iload_n dX4_number_111 rfl ?_
    refine j_callSNi (c_X0_isIn _ _ _) dX4_number_112 pmX0_isIn (fun _ hs => hs.1 _ qn301) q221 rfl ⟨Nat.le_of_ble_eq_true rfl, Nat.le_of_ble_eq_true rfl⟩ ⟨Nat.le_of_ble_eq_true rfl, Nat.le_of_ble_eq_true rfl⟩ rfl (Nat.le_of_ble_eq_true rfl) ?_
    refine j_ifb_eq (tgt := 122) dX4_number_115 (by decide) (fun c115 => absurd ⟨nI_le hcd.2.1 (by omega), nI_le hcd.2.2 hhi⟩ c115) (fun c115 => ?_)
    refine j_iconst (v := 1) dX4_number_118 (by decide) ?_
    refine j_goto (tgt := 123) dX4_number_119 (by decide) ?_
    refine j_iconst (v := 2) dX4_number_123 (by decide) ?_
    refine j_aload_n dX4_number_124 rfl ?_
    refine j_get 4 dX4_number_125 j_set_self in_X4 rfl (by decide) q242 rfl ?_
    refine j_callSv (r_want1 2 (nI q)) dX4_number_128 pmX4_want q469 q470 rfl ⟨Nat.le_of_ble_eq_true rfl, Nat.le_of_ble_eq_true rfl⟩ ⟨Nat.le_of_ble_eq_true rfl, Nat.le_of_ble_eq_true rfl⟩ rfl (Nat.le_of_ble_eq_true rfl) ?_
    refine j_iload_n dX4_number_131 rfl ?_
    refine j_iret dX4_number_132 rfl rfl (Nat.le_refl _) (Nat.le_refl _) ?_
    exact jr_i rfl
  · skip
    refine j_less (L' := [some (.ref (r 200)), some (.int (nI lo)), some (.int (nI hi)), some (.int (nI (dvm T q 0)))]) ⟨Or.inr rfl, Or.inr rfl, Or.inr rfl, Or.inr rfl, trivial⟩ ?_
    refine j_lp1 (fun (k : Nat) => (j_set h 200 (rdC (r 5) n td (q + k) q))) (fun k => [some (.ref (r 200)), some (.int (nI lo)), some (.int (nI hi)), some (.int (nI (dvm T q k)))]) (fun k => q + k ≤ n ∧ de T n (q + k) = de T n q) (fun k => n - (q + k)) ?_ 0 ⟨hqn, rfl⟩
    intro k ⟨hk, hde⟩ ih
    have hdl := dvm_le (T := T) (q := q) k
    refine j_aload_n dX4_number_29 rfl ?_
    refine j_get 3 dX4_number_30 j_set_self in_X4 rfl (by decide) q241 rfl ?_
    refine j_aload_n dX4_number_33 rfl ?_
    refine j_get 1 dX4_number_34 j_set_self in_X4 rfl (by decide) q239 rfl ?_
    refine j_icmp_ge (tgt := 96) dX4_number_37 (by decide) (fun c37 => ?_) (fun c37 => ?_)
    · skip
      have h37 : n ≤ q + k := (nI_leI (by omega) (by omega)).mp c37
      have hout : q + k = de T n (q + k) := (rgE_end h37).symm
      exact kc29 k (by rw [← hde]; exact hout)
    · skip
      have h37 : q + k < n := Nat.lt_of_not_le (fun z => c37 (nI_le z (by omega)))
      obtain ⟨e1, e2⟩ := hsb (q + k) h37
      obtain ⟨-, i2, i3⟩ := sb_in (T (q + k)) e2
      refine j_aload_n dX4_number_40 rfl ?_
      refine j_get 0 dX4_number_41 j_set_self in_X4 rfl (by decide) q238 rfl ?_
      refine j_aload_n dX4_number_44 rfl ?_
      refine j_get 3 dX4_number_45 j_set_self in_X4 rfl (by decide) q241 rfl ?_
      refine j_bald 1 (q + k) dX4_number_48 (by rw [j_set_ne (by decide)]; exact h5) rfl rfl (by omega) (by decide) ?_
      refine j_eqi (show _ = sbI (T (q + k)) from e1) ?_
      refine j_bipush (v := 48) dX4_number_49 (by decide) ?_
      refine j_bipush (v := 57) dX4_number_51 (by decide) ?_
      refine j_callSNi (c_X0_isIn _ _ _) dX4_number_53 pmX0_isIn (fun _ hs => hs.1 _ qn301) q221 rfl ⟨Nat.le_of_ble_eq_true rfl, Nat.le_of_ble_eq_true rfl⟩ ⟨Nat.le_of_ble_eq_true rfl, Nat.le_of_ble_eq_true rfl⟩ rfl (Nat.le_of_ble_eq_true rfl) ?_
      refine j_ifb_eq (tgt := 96) dX4_number_56 (by decide) (fun c56 => ?_) (fun c56 => ?_)
      · skip
        have h56 : ¬ (48 ≤ T (q + k) ∧ T (q + k) ≤ 57) := fun z => c56 (i2.mpr z)
        have hout : q + k = de T n (q + k) := (rgE_out h56).symm
        exact kc29 k (by rw [← hde]; exact hout)
      · skip
        have h56 : 48 ≤ T (q + k) ∧ T (q + k) ≤ 57 := i2.mp c56
        have hgo : de T n (q + k) = de T n (q + k + 1) := rgE_go h37 h56
        have hsbe : sbI (T (q + k)) = nI (T (q + k)) := i3 (by omega)
        refine j_sipush (v := 9999) dX4_number_59 (by decide) ?_
        refine j_bipush (v := 10) dX4_number_62 (by decide) ?_
        refine j_iload_n dX4_number_64 rfl ?_
        refine j_imul dX4_number_65 ?_
        refine j_aload_n dX4_number_66 rfl ?_
        refine j_get 0 dX4_number_67 j_set_self in_X4 rfl (by decide) q238 rfl ?_
        refine j_aload_n dX4_number_70 rfl ?_
        refine j_get 3 dX4_number_71 j_set_self in_X4 rfl (by decide) q241 rfl ?_
        refine j_bald 1 (q + k) dX4_number_74 (by rw [j_set_ne (by decide)]; exact h5) rfl rfl (by omega) (by decide) ?_
        refine j_eqi (show _ = sbI (T (q + k)) from e1) ?_
        refine j_iadd dX4_number_75 ?_
        refine j_bipush (v := 48) dX4_number_76 (by decide) ?_
        refine j_isub dX4_number_78 ?_
        refine j_eqi (show _ = nI (10 * dvm T q k + (T (q + k) - 48)) by rw [hsbe, show (10 : Int32) = nI 10 from rfl, show (48 : Int32) = nI 48 from rfl, pk_mul, nI_add, nI_sub (by omega), show 10 * dvm T q k + T (q + k) - 48 = 10 * dvm T q k + (T (q + k) - 48) by omega]) ?_
        refine j_min dX4_number_79 q545 ⟨Nat.le_of_ble_eq_true rfl, Nat.le_of_ble_eq_true rfl, Nat.le_of_ble_eq_true rfl, Nat.le_of_ble_eq_true rfl⟩ ?_
        refine j_eqi (dvm_step (by omega)) ?_
        refine j_istore_n dX4_number_82 (by decide) rfl ?_
        refine j_aload_n dX4_number_83 rfl ?_
        refine j_dup dX4_number_84 rfl ?_
        refine j_get 3 dX4_number_85 j_set_self in_X4 rfl (by decide) q241 rfl ?_
        refine j_iconst (v := 1) dX4_number_88 (by decide) ?_
        refine j_iadd dX4_number_89 ?_
        refine j_eqi (show _ = nI (q + k + 1) from nI_1 _) ?_
        refine j_put 3 dX4_number_90 j_set_self in_X4 tyX4_ok nmX4 rfl (by decide) q241 rfl rfl rfl (by first | decide | simp) ?_
        refine j_re rfl rfl (h' := (j_set h 200 (rdC (r 5) n td (q + k + 1) q))) j_set2 ?_
        refine j_goto (tgt := 29) dX4_number_93 (by decide) ?_
        refine j_less (L' := [some (.ref (r 200)), some (.int (nI lo)), some (.int (nI hi)), some (.int (nI (dvm T q (k + 1))))]) ⟨Or.inr rfl, Or.inr rfl, Or.inr rfl, Or.inr rfl, trivial⟩ ?_
        exact ih (k + 1) ⟨by omega, by rw [← Nat.add_assoc, ← hgo]; exact hde⟩ (by omega)
set_option maxHeartbeats 4000000 in
theorem r_num0a {l : Launch} {D : va_G} {dT : Nat → ClassId} {H0 : Heap} {r : Nat → Nat} {h : j_H} {nx : Nat} {dTx : Nat → Int32} {T : Nat → Nat} {n td a fr : Nat} (h5 : h 5 = some (txC dT dTx)) (hsb : sbR dTx n T) (hn4 : n ≤ 400) (ha : a ≤ n) (lo hi : Nat) (hlt : ¬ sk T n a < de T n (sk T n a)) (hrn : r 240 = nx) : MC (gG l D dT H0) yX4_number cX4_number 4 (some .int) 5 1 8 [.ref (r 200), .int (nI lo), .int (nI hi)] r (j_set h 200 (rdC (r 5) n td a fr)) nx (q_rt (pNum T n a lo hi).1 (pNum T n a lo hi).2.1 n td r h nx) := by
  have hqn : sk T n a ≤ n := rgE_le ha
  have hdn : de T n (sk T n a) ≤ n := rgE_le hqn
  have hdg : sk T n a ≤ de T n (sk T n a) := rgE_ge
  have hpn : (pNum T n a lo hi) = (1, sk T n a, 0) := by unfold pNum; rw [if_neg hlt]
  have hno : ¬ (48 ≤ (if sk T n a < n then nI (T (sk T n a)) else -1) ∧ (if sk T n a < n then nI (T (sk T n a)) else -1) ≤ 57) := by
    by_cases hc : sk T n a < n
    · rw [if_pos hc]
      intro z
      exact hlt ((rgE_pos (lo := 48) (hi := 57) (T := T) hc).mpr ((in_nN (hsb _ hc).2 (by decide) (by decide)).mp z))
    · rw [if_neg hc]; decide
  refine MC.ofJ [some (.ref (r 200)), some (.int (nI lo)), some (.int (nI hi)), none] rfl (Nat.le_of_ble_eq_true rfl) (by decide) ?_
  refine j_aload_n dX4_number_0 rfl ?_
  refine j_callVi (r_here h5 hsb hn4 ha) dX4_number_1 pmX4_here q258 q260 qs0 j_set_self rfl rfl rfl ⟨Nat.le_of_ble_eq_true rfl, Nat.le_of_ble_eq_true rfl⟩ ⟨Nat.le_of_ble_eq_true rfl, Nat.le_of_ble_eq_true rfl⟩ rfl (Nat.le_of_ble_eq_true rfl) ?_
  refine j_bipush (v := 48) dX4_number_4 (by decide) ?_
  refine j_bipush (v := 57) dX4_number_6 (by decide) ?_
  refine j_callSNi (c_X0_isIn _ _ _) dX4_number_8 pmX0_isIn (fun _ hs => hs.1 _ qn301) q221 rfl ⟨Nat.le_of_ble_eq_true rfl, Nat.le_of_ble_eq_true rfl⟩ ⟨Nat.le_of_ble_eq_true rfl, Nat.le_of_ble_eq_true rfl⟩ rfl (Nat.le_of_ble_eq_true rfl) ?_
  refine j_eqi (j_b_f hno) ?_
  refine j_iconst (v := 1) dX4_number_11 (by decide) ?_
  refine j_aload_n dX4_number_12 rfl ?_
  refine j_get 3 dX4_number_13 j_set_self in_X4 rfl (by decide) q241 rfl ?_
  refine j_callST (r_want0 1 (nI (sk T n a)) 240 hrn) jq_t.isT rfl dX4_number_16 pmX4_want q469 q470 rfl ⟨(Nat.le_of_ble_eq_true rfl), (Nat.le_of_ble_eq_true rfl)⟩ ⟨(Nat.le_of_ble_eq_true rfl), (Nat.le_of_ble_eq_true rfl)⟩ rfl (Nat.le_of_ble_eq_true rfl) (Nat.le_of_ble_eq_true rfl) (Nat.le_of_ble_eq_true rfl) ?_
  rintro v9 r9 h9 nx9 ⟨e9, rfl, rfl, rfl⟩
  cases e9
  rw [hpn]
  exact ⟨rfl, rfl, rfl, _, _, rfl⟩
set_option maxHeartbeats 4000000 in
theorem r_num0b {l : Launch} {D : va_G} {dT : Nat → ClassId} {H0 : Heap} {r : Nat → Nat} {h : j_H} {nx : Nat} {dTx : Nat → Int32} {T : Nat → Nat} {n td a fr : Nat} (h5 : h 5 = some (txC dT dTx)) (hsb : sbR dTx n T) (hn4 : n ≤ 400) (ha : a ≤ n) (lo hi : Nat) (hlo : lo < 2 ^ 31) (hhi : hi < 2 ^ 31) (hlt : sk T n a < de T n (sk T n a)) (hcd : ¬ (de T n (sk T n a) ≤ sk T n a + 3 ∧ lo ≤ dv T (sk T n a) (de T n (sk T n a) - sk T n a) ∧ dv T (sk T n a) (de T n (sk T n a) - sk T n a) ≤ hi)) (hrn : r 240 = nx) : MC (gG l D dT H0) yX4_number cX4_number 4 (some .int) 5 1 8 [.ref (r 200), .int (nI lo), .int (nI hi)] r (j_set h 200 (rdC (r 5) n td a fr)) nx (q_rt (pNum T n a lo hi).1 (pNum T n a lo hi).2.1 n td r h nx) := by
  have hqn : sk T n a ≤ n := rgE_le ha
  have hdn : de T n (sk T n a) ≤ n := rgE_le hqn
  have hdg : sk T n a ≤ de T n (sk T n a) := rgE_ge
  have hpn : (pNum T n a lo hi) = (2, sk T n a, 0) := by unfold pNum; rw [if_pos hlt, if_neg hcd]
  have hql : sk T n a < n := by omega
  have hdi := (rgE_pos (lo := 48) (hi := 57) (T := T) hql).mp hlt
  obtain ⟨q, hq⟩ : ∃ q, sk T n a = q := ⟨_, rfl⟩
  have hT := (hsb _ hql).2
  rw [hq] at hqn hdn hdg hlt hcd hql hdi hT hpn
  refine MC.ofJ [some (.ref (r 200)), some (.int (nI lo)), some (.int (nI hi)), none] rfl (Nat.le_of_ble_eq_true rfl) (by decide) ?_
  refine j_aload_n dX4_number_0 rfl ?_
  refine j_callVi (r_here h5 hsb hn4 ha) dX4_number_1 pmX4_here q258 q260 qs0 j_set_self rfl rfl rfl ⟨Nat.le_of_ble_eq_true rfl, Nat.le_of_ble_eq_true rfl⟩ ⟨Nat.le_of_ble_eq_true rfl, Nat.le_of_ble_eq_true rfl⟩ rfl (Nat.le_of_ble_eq_true rfl) ?_
  rw [hq]
  rw [if_pos hql]
  refine j_bipush (v := 48) dX4_number_4 (by decide) ?_
  refine j_bipush (v := 57) dX4_number_6 (by decide) ?_
  refine j_callSNi (c_X0_isIn _ _ _) dX4_number_8 pmX0_isIn (fun _ hs => hs.1 _ qn301) q221 rfl ⟨Nat.le_of_ble_eq_true rfl, Nat.le_of_ble_eq_true rfl⟩ ⟨Nat.le_of_ble_eq_true rfl, Nat.le_of_ble_eq_true rfl⟩ rfl (Nat.le_of_ble_eq_true rfl) ?_
  refine j_eqi (j_b_t ((in_nN hT (by decide) (by decide)).mpr hdi)) ?_
  refine j_iconst (v := 1) dX4_number_11 (by decide) ?_
  refine j_aload_n dX4_number_12 rfl ?_
  refine j_get 3 dX4_number_13 j_set_self in_X4 rfl (by decide) q241 rfl ?_
  refine j_callSv (r_want1 1 (nI q)) dX4_number_16 pmX4_want q469 q470 rfl ⟨Nat.le_of_ble_eq_true rfl, Nat.le_of_ble_eq_true rfl⟩ ⟨Nat.le_of_ble_eq_true rfl, Nat.le_of_ble_eq_true rfl⟩ rfl (Nat.le_of_ble_eq_true rfl) ?_
  refine j_aload_n dX4_number_19 rfl ?_
  refine j_aload_n dX4_number_20 rfl ?_
  refine j_get 3 dX4_number_21 j_set_self in_X4 rfl (by decide) q241 rfl ?_
  refine j_put 4 dX4_number_24 j_set_self in_X4 tyX4_ok nmX4 rfl (by decide) q242 rfl rfl rfl (by first | decide | simp) ?_
  refine j_re rfl rfl (h' := (j_set h 200 (rdC (r 5) n td q q))) j_set2 ?_
  refine j_iconst (v := 0) dX4_number_27 (by decide) ?_
  refine j_istore_n dX4_number_28 (by decide) rfl ?_
  refine j_cut (tgt := 96) (fun k => q + k = de T n q) (fun k => (j_set h 200 (rdC (r 5) n td (q + k) q))) (fun k => [some (.ref (r 200)), some (.int (nI lo)), some (.int (nI hi)), some (.int (nI (dvm T q k)))]) ?_ (fun kc29 => ?_)
  · skip
    intro k hk
    have hke : de T n q - q = k := by omega
    rw [hke] at hcd
    have hdl := dvm_le (T := T) (q := q) k
    refine j_aload_n dX4_number_96 rfl ?_
    refine j_get 3 dX4_number_97 j_set_self in_X4 rfl (by decide) q241 rfl ?_
    refine j_aload_n dX4_number_100 rfl ?_
    refine j_get 4 dX4_number_101 j_set_self in_X4 rfl (by decide) q242 rfl ?_
    refine j_iconst (v := 3) dX4_number_104 (by decide) ?_
    refine j_iadd dX4_number_105 ?_
    refine j_eqi (show _ = nI (q + 3) from nI_add q 3) ?_
    refine j_icmp_gt (tgt := 122) dX4_number_106 (by decide) (fun c106 => ?_) (fun c106 => ?_)
    · skip
      skip
      refine j_iconst (v := 0) dX4_number_122 (by decide) ?_
      refine j_iconst (v := 2) dX4_number_123 (by decide) ?_
      refine j_aload_n dX4_number_124 rfl ?_
      refine j_get 4 dX4_number_125 j_set_self in_X4 rfl (by decide) q242 rfl ?_
      refine j_callST (r_want0 2 (nI q) 240 hrn) jq_t.isT rfl dX4_number_128 pmX4_want q469 q470 rfl ⟨(Nat.le_of_ble_eq_true rfl), (Nat.le_of_ble_eq_true rfl)⟩ ⟨(Nat.le_of_ble_eq_true rfl), (Nat.le_of_ble_eq_true rfl)⟩ rfl (Nat.le_of_ble_eq_true rfl) (Nat.le_of_ble_eq_true rfl) (Nat.le_of_ble_eq_true rfl) ?_
      rintro v9 r9 h9 nx9 ⟨e9, rfl, rfl, rfl⟩
      cases e9
      rw [hpn]
      exact ⟨rfl, rfl, rfl, _, _, rfl⟩
    · skip
      have h106 : q + k ≤ q + 3 := Nat.le_of_not_lt (fun z => c106 (nI_lt z (by omega)))
      have hdv : dvm T q k = dv T q k := dvm_eq k (by omega) (fun i hi => rgE_in (n := n) (p := q) (by omega) (by show q + i < de T n q; omega))
      refine j_iload_n dX4_number_109 rfl ?_
      refine j_iload_n dX4_number_110 rfl ?_
      refine j_iload_n dX4_number_111 rfl ?_
      refine j_callSNi (c_X0_isIn _ _ _) dX4_number_112 pmX0_isIn (fun _ hs => hs.1 _ qn301) q221 rfl ⟨Nat.le_of_ble_eq_true rfl, Nat.le_of_ble_eq_true rfl⟩ ⟨Nat.le_of_ble_eq_true rfl, Nat.le_of_ble_eq_true rfl⟩ rfl (Nat.le_of_ble_eq_true rfl) ?_
      refine j_ifb_eq (tgt := 122) dX4_number_115 (by decide) (fun c115 => ?_) (fun c115 => absurd c115 (fun z => hcd ⟨by omega, by rw [← hdv]; exact (nI_leI (by omega) (by omega)).mp z.1, by rw [← hdv]; exact (nI_leI (by omega) hhi).mp z.2⟩))
      refine j_iconst (v := 0) dX4_number_122 (by decide) ?_
      refine j_iconst (v := 2) dX4_number_123 (by decide) ?_
      refine j_aload_n dX4_number_124 rfl ?_
      refine j_get 4 dX4_number_125 j_set_self in_X4 rfl (by decide) q242 rfl ?_
      refine j_callST (r_want0 2 (nI q) 240 hrn) jq_t.isT rfl dX4_number_128 pmX4_want q469 q470 rfl ⟨(Nat.le_of_ble_eq_true rfl), (Nat.le_of_ble_eq_true rfl)⟩ ⟨(Nat.le_of_ble_eq_true rfl), (Nat.le_of_ble_eq_true rfl)⟩ rfl (Nat.le_of_ble_eq_true rfl) (Nat.le_of_ble_eq_true rfl) (Nat.le_of_ble_eq_true rfl) ?_
      rintro v9 r9 h9 nx9 ⟨e9, rfl, rfl, rfl⟩
      cases e9
      rw [hpn]
      exact ⟨rfl, rfl, rfl, _, _, rfl⟩
  · skip
    refine j_less (L' := [some (.ref (r 200)), some (.int (nI lo)), some (.int (nI hi)), some (.int (nI (dvm T q 0)))]) ⟨Or.inr rfl, Or.inr rfl, Or.inr rfl, Or.inr rfl, trivial⟩ ?_
    refine j_lp1 (fun (k : Nat) => (j_set h 200 (rdC (r 5) n td (q + k) q))) (fun k => [some (.ref (r 200)), some (.int (nI lo)), some (.int (nI hi)), some (.int (nI (dvm T q k)))]) (fun k => q + k ≤ n ∧ de T n (q + k) = de T n q) (fun k => n - (q + k)) ?_ 0 ⟨hqn, rfl⟩
    intro k ⟨hk, hde⟩ ih
    have hdl := dvm_le (T := T) (q := q) k
    refine j_aload_n dX4_number_29 rfl ?_
    refine j_get 3 dX4_number_30 j_set_self in_X4 rfl (by decide) q241 rfl ?_
    refine j_aload_n dX4_number_33 rfl ?_
    refine j_get 1 dX4_number_34 j_set_self in_X4 rfl (by decide) q239 rfl ?_
    refine j_icmp_ge (tgt := 96) dX4_number_37 (by decide) (fun c37 => ?_) (fun c37 => ?_)
    · skip
      have h37 : n ≤ q + k := (nI_leI (by omega) (by omega)).mp c37
      have hout : q + k = de T n (q + k) := (rgE_end h37).symm
      exact kc29 k (by rw [← hde]; exact hout)
    · skip
      have h37 : q + k < n := Nat.lt_of_not_le (fun z => c37 (nI_le z (by omega)))
      obtain ⟨e1, e2⟩ := hsb (q + k) h37
      obtain ⟨-, i2, i3⟩ := sb_in (T (q + k)) e2
      refine j_aload_n dX4_number_40 rfl ?_
      refine j_get 0 dX4_number_41 j_set_self in_X4 rfl (by decide) q238 rfl ?_
      refine j_aload_n dX4_number_44 rfl ?_
      refine j_get 3 dX4_number_45 j_set_self in_X4 rfl (by decide) q241 rfl ?_
      refine j_bald 1 (q + k) dX4_number_48 (by rw [j_set_ne (by decide)]; exact h5) rfl rfl (by omega) (by decide) ?_
      refine j_eqi (show _ = sbI (T (q + k)) from e1) ?_
      refine j_bipush (v := 48) dX4_number_49 (by decide) ?_
      refine j_bipush (v := 57) dX4_number_51 (by decide) ?_
      refine j_callSNi (c_X0_isIn _ _ _) dX4_number_53 pmX0_isIn (fun _ hs => hs.1 _ qn301) q221 rfl ⟨Nat.le_of_ble_eq_true rfl, Nat.le_of_ble_eq_true rfl⟩ ⟨Nat.le_of_ble_eq_true rfl, Nat.le_of_ble_eq_true rfl⟩ rfl (Nat.le_of_ble_eq_true rfl) ?_
      refine j_ifb_eq (tgt := 96) dX4_number_56 (by decide) (fun c56 => ?_) (fun c56 => ?_)
      · skip
        have h56 : ¬ (48 ≤ T (q + k) ∧ T (q + k) ≤ 57) := fun z => c56 (i2.mpr z)
        have hout : q + k = de T n (q + k) := (rgE_out h56).symm
        exact kc29 k (by rw [← hde]; exact hout)
      · skip
        have h56 : 48 ≤ T (q + k) ∧ T (q + k) ≤ 57 := i2.mp c56
        have hgo : de T n (q + k) = de T n (q + k + 1) := rgE_go h37 h56
        have hsbe : sbI (T (q + k)) = nI (T (q + k)) := i3 (by omega)
        refine j_sipush (v := 9999) dX4_number_59 (by decide) ?_
        refine j_bipush (v := 10) dX4_number_62 (by decide) ?_
        refine j_iload_n dX4_number_64 rfl ?_
        refine j_imul dX4_number_65 ?_
        refine j_aload_n dX4_number_66 rfl ?_
        refine j_get 0 dX4_number_67 j_set_self in_X4 rfl (by decide) q238 rfl ?_
        refine j_aload_n dX4_number_70 rfl ?_
        refine j_get 3 dX4_number_71 j_set_self in_X4 rfl (by decide) q241 rfl ?_
        refine j_bald 1 (q + k) dX4_number_74 (by rw [j_set_ne (by decide)]; exact h5) rfl rfl (by omega) (by decide) ?_
        refine j_eqi (show _ = sbI (T (q + k)) from e1) ?_
        refine j_iadd dX4_number_75 ?_
        refine j_bipush (v := 48) dX4_number_76 (by decide) ?_
        refine j_isub dX4_number_78 ?_
        refine j_eqi (show _ = nI (10 * dvm T q k + (T (q + k) - 48)) by rw [hsbe, show (10 : Int32) = nI 10 from rfl, show (48 : Int32) = nI 48 from rfl, pk_mul, nI_add, nI_sub (by omega), show 10 * dvm T q k + T (q + k) - 48 = 10 * dvm T q k + (T (q + k) - 48) by omega]) ?_
        refine j_min dX4_number_79 q545 ⟨Nat.le_of_ble_eq_true rfl, Nat.le_of_ble_eq_true rfl, Nat.le_of_ble_eq_true rfl, Nat.le_of_ble_eq_true rfl⟩ ?_
        refine j_eqi (dvm_step (by omega)) ?_
        refine j_istore_n dX4_number_82 (by decide) rfl ?_
        refine j_aload_n dX4_number_83 rfl ?_
        refine j_dup dX4_number_84 rfl ?_
        refine j_get 3 dX4_number_85 j_set_self in_X4 rfl (by decide) q241 rfl ?_
        refine j_iconst (v := 1) dX4_number_88 (by decide) ?_
        refine j_iadd dX4_number_89 ?_
        refine j_eqi (show _ = nI (q + k + 1) from nI_1 _) ?_
        refine j_put 3 dX4_number_90 j_set_self in_X4 tyX4_ok nmX4 rfl (by decide) q241 rfl rfl rfl (by first | decide | simp) ?_
        refine j_re rfl rfl (h' := (j_set h 200 (rdC (r 5) n td (q + k + 1) q))) j_set2 ?_
        refine j_goto (tgt := 29) dX4_number_93 (by decide) ?_
        refine j_less (L' := [some (.ref (r 200)), some (.int (nI lo)), some (.int (nI hi)), some (.int (nI (dvm T q (k + 1))))]) ⟨Or.inr rfl, Or.inr rfl, Or.inr rfl, Or.inr rfl, trivial⟩ ?_
        exact ih (k + 1) ⟨by omega, by rw [← Nat.add_assoc, ← hgo]; exact hde⟩ (by omega)
theorem r_num0 {l : Launch} {D : va_G} {dT : Nat → ClassId} {H0 : Heap} {r : Nat → Nat} {h : j_H} {nx : Nat} {dTx : Nat → Int32} {T : Nat → Nat} {n td a fr : Nat} (h5 : h 5 = some (txC dT dTx)) (hsb : sbR dTx n T) (hn4 : n ≤ 400) (ha : a ≤ n) (lo hi : Nat) (hlo : lo < 2 ^ 31) (hhi : hi < 2 ^ 31) (hok : ¬ (pNum T n a lo hi).1 = 0) (hrn : r 240 = nx) : MC (gG l D dT H0) yX4_number cX4_number 4 (some .int) 5 1 8 [.ref (r 200), .int (nI lo), .int (nI hi)] r (j_set h 200 (rdC (r 5) n td a fr)) nx (q_rt (pNum T n a lo hi).1 (pNum T n a lo hi).2.1 n td r h nx) := by
  by_cases hlt : sk T n a < de T n (sk T n a)
  · by_cases hcd : de T n (sk T n a) ≤ sk T n a + 3 ∧ lo ≤ dv T (sk T n a) (de T n (sk T n a) - sk T n a) ∧ dv T (sk T n a) (de T n (sk T n a) - sk T n a) ≤ hi
    · exact absurd (by unfold pNum; rw [if_pos hlt, if_pos hcd]) hok
    · exact r_num0b h5 hsb hn4 ha lo hi hlo hhi hlt hcd hrn
  · exact r_num0a h5 hsb hn4 ha lo hi hlt hrn
set_option maxHeartbeats 4000000 in
theorem r_cost1 {l : Launch} {D : va_G} {dT : Nat → ClassId} {H0 : Heap} {r : Nat → Nat} {h : j_H} {nx : Nat} {dTx : Nat → Int32} {T : Nat → Nat} {n td a fr : Nat} (h5 : h 5 = some (txC dT dTx)) (hsb : sbR dTx n T) (hn4 : n ≤ 400) (ha : a ≤ n) (hok : (pNum T n a 1 99).1 = 0) : MC (gG l D dT H0) yX4_cost cX4_cost 1 (some .int) 6 0 0 [.ref (r 200)] r (j_set h 200 (rdC (r 5) n td a fr)) nx (jq_i (nI (pNum T n a 1 99).2.1) r (j_set h 200 (rdC (r 5) n td (pNum T n a 1 99).2.2 (sk T n a))) nx) := by
  refine MC.ofJ [some (.ref (r 200))] rfl (Nat.le_of_ble_eq_true rfl) (by decide) ?_
  refine j_aload_n dX4_cost_0 rfl ?_
  refine j_iconst (v := 1) dX4_cost_1 (by decide) ?_
  refine j_bipush (v := 99) dX4_cost_2 (by decide) ?_
  refine j_callVi (r_num1 h5 hsb hn4 ha 1 99 (by decide) hok) dX4_cost_4 pmX4_number q541 q543 qs4 j_set_self rfl rfl rfl ⟨Nat.le_of_ble_eq_true rfl, Nat.le_of_ble_eq_true rfl⟩ ⟨Nat.le_of_ble_eq_true rfl, Nat.le_of_ble_eq_true rfl⟩ rfl (Nat.le_of_ble_eq_true rfl) ?_
  refine j_iret dX4_cost_7 rfl rfl (Nat.le_refl _) (Nat.le_refl _) ?_
  exact jr_i rfl
set_option maxHeartbeats 4000000 in
theorem r_cost0 {l : Launch} {D : va_G} {dT : Nat → ClassId} {H0 : Heap} {r : Nat → Nat} {h : j_H} {nx : Nat} {dTx : Nat → Int32} {T : Nat → Nat} {n td a fr : Nat} (h5 : h 5 = some (txC dT dTx)) (hsb : sbR dTx n T) (hn4 : n ≤ 400) (ha : a ≤ n) (hok : ¬ (pNum T n a 1 99).1 = 0) (hrn : r 240 = nx) : MC (gG l D dT H0) yX4_cost cX4_cost 1 (some .int) 6 1 8 [.ref (r 200)] r (j_set h 200 (rdC (r 5) n td a fr)) nx (q_rt (pNum T n a 1 99).1 (pNum T n a 1 99).2.1 n td r h nx) := by
  refine MC.ofJ [some (.ref (r 200))] rfl (Nat.le_of_ble_eq_true rfl) (by decide) ?_
  refine j_aload_n dX4_cost_0 rfl ?_
  refine j_iconst (v := 1) dX4_cost_1 (by decide) ?_
  refine j_bipush (v := 99) dX4_cost_2 (by decide) ?_
  refine j_callVT (r_num0 h5 hsb hn4 ha 1 99 (by decide) (by decide) hok hrn) q_rt.isT rfl dX4_cost_4 pmX4_number q541 q543 qs4 j_set_self rfl rfl rfl ⟨(Nat.le_of_ble_eq_true rfl), (Nat.le_of_ble_eq_true rfl)⟩ ⟨(Nat.le_of_ble_eq_true rfl), (Nat.le_of_ble_eq_true rfl)⟩ rfl (Nat.le_of_ble_eq_true rfl) (Nat.le_of_ble_eq_true rfl) (Nat.le_of_ble_eq_true rfl) ?_
  intro v9 r9 h9 nx9 hq9
  exact hq9
