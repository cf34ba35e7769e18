set_option maxRecDepth 100000
set_option maxHeartbeats 4000000 in
theorem m_seed1 {l : Launch} {D : va_G} {dT : Nat → ClassId} {H0 : Heap} {r : Nat → Nat} {nx : Nat} {g : j_H} {kI : Int32} {bs fg m nk w x s t : Nat} {F : Nat → Nat} {tk : Int64} {V : Nat → Nat → Int32} (v : Nat) (hv : v < 2 ^ 31) : MC (gG l D dT H0) yX3_seed cX3_seed 3 (some .int) 0 0 0 [.ref (r 100), .int (nI v)] r (mdS r dT g kI bs fg m nk w x s t F tk V) nx (jq_i (nI (F 26)) r (mdS r dT g kI bs fg m nk w x s t (va_up F 26 v) tk V) nx) := by
  refine MC.ofJ [some (.ref (r 100)), some (.int (nI v)), none] rfl (Nat.le_of_ble_eq_true rfl) (by decide) ?_
  refine j_iload_n dX3_seed_0 rfl ?_
  refine j_if_ge (tgt := 7) dX3_seed_1 (by decide) (fun c1 => ?_) (fun c1 => absurd (nI_pos' hv) c1)
  refine j_aload_n dX3_seed_7 rfl ?_
  refine j_get 26 dX3_seed_8 (by first | rfl | assumption) in_X3 rfl (by decide) q1125 rfl ?_
  refine j_l2i dX3_seed_11 ?_
  refine j_eqi (lN_i _) ?_
  refine j_istore_n dX3_seed_12 (by decide) rfl ?_
  refine j_aload_n dX3_seed_13 rfl ?_
  refine j_iload_n dX3_seed_14 rfl ?_
  refine j_i2l dX3_seed_15 ?_
  rw [nI_l hv]
  refine j_put 26 dX3_seed_16 (by first | rfl | assumption) in_X3 tyX3_ok nmX3 rfl (by decide) q1125 rfl rfl rfl (by first | decide | simp) ?_
  refine j_mdF (q := 26) (v := v) (by decide) rfl ?_
  refine j_iload_n dX3_seed_19 rfl ?_
  refine j_iret dX3_seed_20 rfl rfl (Nat.le_refl _) (Nat.le_refl _) ?_
  exact ⟨rfl, rfl, rfl, rfl⟩
set_option maxHeartbeats 4000000 in
theorem m_key0 {l : Launch} {D : va_G} {dT : Nat → ClassId} {H0 : Heap} {r : Nat → Nat} {nx : Nat} {g : j_H} {kI : Int32} {bs fg m nk w x s t : Nat} {F : Nat → Nat} {tk : Int64} {V : Nat → Nat → Int32} (v u : Int32) (hv : ¬ (0 ≤ v ∧ v ≤ nI nk - 1)) : MC (gG l D dT H0) yX3_key cX3_key 3 (some .int) 1 0 0 [.ref (r 100), .int v, .int u] r (mdS r dT g kI bs fg m nk w x s t F tk V) nx (jq_i (-1000000001) r (mdS r dT g kI bs fg m nk w x s t F tk V) nx) := by
  refine MC.ofJ [some (.ref (r 100)), some (.int v), some (.int u)] rfl (Nat.le_of_ble_eq_true rfl) (by decide) ?_
  refine j_iload_n dX3_key_0 rfl ?_
  refine j_iconst (v := 0) dX3_key_1 (by decide) ?_
  refine j_aload_n dX3_key_2 rfl ?_
  refine j_get 4 dX3_key_3 (by first | rfl | assumption) in_X3 rfl (by decide) q1103 rfl ?_
  refine j_iconst (v := 1) dX3_key_6 (by decide) ?_
  refine j_isub dX3_key_7 ?_
  refine j_callSi (c_X3_in _ _ _) dX3_key_8 pmX3_in q1228 q1229 rfl ⟨Nat.le_of_ble_eq_true rfl, Nat.le_of_ble_eq_true rfl⟩ ⟨Nat.le_of_ble_eq_true rfl, Nat.le_of_ble_eq_true rfl⟩ rfl (Nat.le_of_ble_eq_true rfl) ?_
  refine j_ifb_ne (tgt := 17) dX3_key_11 (by decide) (fun c11 => absurd c11 hv) (fun c11 => ?_)
  refine j_ldc dX3_key_14 q1307 ?_
  refine j_iret dX3_key_16 rfl rfl (Nat.le_refl _) (Nat.le_refl _) ?_
  exact ⟨rfl, rfl, rfl, rfl⟩
set_option maxHeartbeats 4000000 in
theorem m_keyo {l : Launch} {D : va_G} {dT : Nat → ClassId} {H0 : Heap} {r : Nat → Nat} {nx : Nat} {g : j_H} {kI : Int32} {bs fg m nk w x s t : Nat} {F : Nat → Nat} {tk : Int64} {V : Nat → Nat → Int32} (v u : Int32) (hv : 0 ≤ v ∧ v ≤ nI nk - 1) (hu : ¬ (0 ≤ u ∧ u ≤ 3)) : MC (gG l D dT H0) yX3_key cX3_key 3 (some .int) 1 0 0 [.ref (r 100), .int v, .int u] r (mdS r dT g kI bs fg m nk w x s t F tk V) nx (jq_i (-1000000002) r (mdS r dT g kI bs fg m nk w x s t F tk V) nx) := by
  refine MC.ofJ [some (.ref (r 100)), some (.int v), some (.int u)] rfl (Nat.le_of_ble_eq_true rfl) (by decide) ?_
  refine j_iload_n dX3_key_0 rfl ?_
  refine j_iconst (v := 0) dX3_key_1 (by decide) ?_
  refine j_aload_n dX3_key_2 rfl ?_
  refine j_get 4 dX3_key_3 (by first | rfl | assumption) in_X3 rfl (by decide) q1103 rfl ?_
  refine j_iconst (v := 1) dX3_key_6 (by decide) ?_
  refine j_isub dX3_key_7 ?_
  refine j_callSi (c_X3_in _ _ _) dX3_key_8 pmX3_in q1228 q1229 rfl ⟨Nat.le_of_ble_eq_true rfl, Nat.le_of_ble_eq_true rfl⟩ ⟨Nat.le_of_ble_eq_true rfl, Nat.le_of_ble_eq_true rfl⟩ rfl (Nat.le_of_ble_eq_true rfl) ?_
  refine j_ifb_ne (tgt := 17) dX3_key_11 (by decide) (fun c11 => ?_) (fun c11 => absurd hv c11)
  refine j_iload_n dX3_key_17 rfl ?_
  refine j_iconst (v := 0) dX3_key_18 (by decide) ?_
  refine j_iconst (v := 3) dX3_key_19 (by decide) ?_
  refine j_callSi (c_X3_in _ _ _) dX3_key_20 pmX3_in q1228 q1229 rfl ⟨Nat.le_of_ble_eq_true rfl, Nat.le_of_ble_eq_true rfl⟩ ⟨Nat.le_of_ble_eq_true rfl, Nat.le_of_ble_eq_true rfl⟩ rfl (Nat.le_of_ble_eq_true rfl) ?_
  refine j_ifb_eq (tgt := 39) dX3_key_23 (by decide) (fun c23 => ?_) (fun c23 => absurd c23 hu)
  refine j_ldc dX3_key_39 q1231 ?_
  refine j_iret dX3_key_41 rfl rfl (Nat.le_refl _) (Nat.le_refl _) ?_
  exact ⟨rfl, rfl, rfl, rfl⟩
set_option maxHeartbeats 4000000 in
theorem m_key1 {l : Launch} {D : va_G} {dT : Nat → ClassId} {H0 : Heap} {r : Nat → Nat} {nx : Nat} {g : j_H} {kI : Int32} {bs fg m nk w x s t : Nat} {F : Nat → Nat} {tk : Int64} {V : Nat → Nat → Int32} (k u : Nat) (hk : k < nk) (hn : nk ≤ 8) (hu : u < 4) : MC (gG l D dT H0) yX3_key cX3_key 3 (some .int) 1 0 0 [.ref (r 100), .int (nI k), .int (nI u)] r (mdS r dT g kI bs fg m nk w x s t F tk V) nx (jq_i (V 101 (4 * k + u)) r (mdS r dT g kI bs fg m nk w x s t F tk V) nx) := by
  refine MC.ofJ [some (.ref (r 100)), some (.int (nI k)), some (.int (nI u))] rfl (Nat.le_of_ble_eq_true rfl) (by decide) ?_
  refine j_iload_n dX3_key_0 rfl ?_
  refine j_iconst (v := 0) dX3_key_1 (by decide) ?_
  refine j_aload_n dX3_key_2 rfl ?_
  refine j_get 4 dX3_key_3 (by first | rfl | assumption) in_X3 rfl (by decide) q1103 rfl ?_
  refine j_iconst (v := 1) dX3_key_6 (by decide) ?_
  refine j_isub dX3_key_7 ?_
  refine j_callSi (c_X3_in _ _ _) dX3_key_8 pmX3_in q1228 q1229 rfl ⟨Nat.le_of_ble_eq_true rfl, Nat.le_of_ble_eq_true rfl⟩ ⟨Nat.le_of_ble_eq_true rfl, Nat.le_of_ble_eq_true rfl⟩ rfl (Nat.le_of_ble_eq_true rfl) ?_
  refine j_ifb_ne (tgt := 17) dX3_key_11 (by decide) (fun c11 => ?_) (fun c11 => absurd (nI_inr hk (by omega)) c11)
  refine j_iload_n dX3_key_17 rfl ?_
  refine j_iconst (v := 0) dX3_key_18 (by decide) ?_
  refine j_iconst (v := 3) dX3_key_19 (by decide) ?_
  refine j_callSi (c_X3_in _ _ _) dX3_key_20 pmX3_in q1228 q1229 rfl ⟨Nat.le_of_ble_eq_true rfl, Nat.le_of_ble_eq_true rfl⟩ ⟨Nat.le_of_ble_eq_true rfl, Nat.le_of_ble_eq_true rfl⟩ rfl (Nat.le_of_ble_eq_true rfl) ?_
  refine j_ifb_eq (tgt := 39) dX3_key_23 (by decide) (fun c23 => absurd (show 0 ≤ nI u ∧ nI u ≤ nI 4 - 1 from nI_inr hu (by decide)) c23) (fun c23 => ?_)
  refine j_aload_n dX3_key_26 rfl ?_
  refine j_get 5 dX3_key_27 (by first | rfl | assumption) in_X3 rfl (by decide) q1104 rfl ?_
  refine j_iconst (v := 4) dX3_key_30 (by decide) ?_
  refine j_iload_n dX3_key_31 rfl ?_
  refine j_imul dX3_key_32 ?_
  refine j_iload_n dX3_key_33 rfl ?_
  refine j_iadd dX3_key_34 ?_
  refine j_iald 0 (4 * k + u) dX3_key_35 (by first | rfl | assumption) rfl (by rw [jx0, nI_add]) (by show _ < 36; omega) (by decide) ?_
  refine j_goto (tgt := 41) dX3_key_36 (by decide) ?_
  refine j_iret dX3_key_41 rfl rfl (Nat.le_refl _) (Nat.le_refl _) ?_
  exact ⟨rfl, rfl, rfl, rfl⟩
def mTold (F : Nat → Nat) (kI : Int32) (bs fg m nk w x s t : Nat) (k : Nat) : Int32 := match k with
  | 0 => kI | 1 => nI bs | 2 => nI fg | 3 => nI m | 4 => nI nk | 5 => nI (F 6) | 6 => nI s | 7 => nI w | 8 => nI x | 9 => nI t | 10 => nI (F 25) | 11 => nI (F 27) | _ => nI (F 29)
set_option maxHeartbeats 4000000 in
theorem m_told {l : Launch} {D : va_G} {dT : Nat → ClassId} {H0 : Heap} {r : Nat → Nat} {nx : Nat} {g : j_H} {kI : Int32} {bs fg m nk w x s t : Nat} {F : Nat → Nat} {tk : Int64} {V : Nat → Nat → Int32} (v : Int32) (ht : t < 2) : MC (gG l D dT H0) yX3_told cX3_told 2 (some .int) 0 0 0 [.ref (r 100), .int v] r (mdS r dT g kI bs fg m nk w x s t F tk V) nx (jq_i (swI 12 (mTold F kI bs fg m nk w x s t) (-1000000002) v) r (mdS r dT g kI bs fg m nk w x s t F tk V) nx) := by
  refine MC.ofJ [some (.ref (r 100)), some (.int v)] rfl (Nat.le_of_ble_eq_true rfl) (by decide) ?_
  refine j_iload_n dX3_told_0 rfl ?_
  skip
  by_cases q0 : v = 0
  · subst q0
    refine j_tabI (off := 67) (tgt := 68) dX3_told_1 (by decide) (by decide) (by decide) (by decide) ?_
    refine j_aload_n dX3_told_68 rfl ?_
    refine j_get 0 dX3_told_69 (by first | rfl | assumption) in_X3 rfl (by decide) q1099 rfl ?_
    refine j_iret dX3_told_72 rfl rfl (Nat.le_refl _) (Nat.le_refl _) ?_
    exact jr_i rfl
  by_cases q1 : v = 1
  · subst q1
    refine j_tabI (off := 72) (tgt := 73) dX3_told_1 (by decide) (by decide) (by decide) (by decide) ?_
    refine j_aload_n dX3_told_73 rfl ?_
    refine j_get 1 dX3_told_74 (by first | rfl | assumption) in_X3 rfl (by decide) q1100 rfl ?_
    refine j_iret dX3_told_77 rfl rfl (Nat.le_refl _) (Nat.le_refl _) ?_
    exact jr_i rfl
  by_cases q2 : v = 2
  · subst q2
    refine j_tabI (off := 77) (tgt := 78) dX3_told_1 (by decide) (by decide) (by decide) (by decide) ?_
    refine j_aload_n dX3_told_78 rfl ?_
    refine j_get 2 dX3_told_79 (by first | rfl | assumption) in_X3 rfl (by decide) q1101 rfl ?_
    refine j_iret dX3_told_82 rfl rfl (Nat.le_refl _) (Nat.le_refl _) ?_
    exact jr_i rfl
  by_cases q3 : v = 3
  · subst q3
    refine j_tabI (off := 82) (tgt := 83) dX3_told_1 (by decide) (by decide) (by decide) (by decide) ?_
    refine j_aload_n dX3_told_83 rfl ?_
    refine j_get 3 dX3_told_84 (by first | rfl | assumption) in_X3 rfl (by decide) q1102 rfl ?_
    refine j_iret dX3_told_87 rfl rfl (Nat.le_refl _) (Nat.le_refl _) ?_
    exact jr_i rfl
  by_cases q4 : v = 4
  · subst q4
    refine j_tabI (off := 87) (tgt := 88) dX3_told_1 (by decide) (by decide) (by decide) (by decide) ?_
    refine j_aload_n dX3_told_88 rfl ?_
    refine j_get 4 dX3_told_89 (by first | rfl | assumption) in_X3 rfl (by decide) q1103 rfl ?_
    refine j_iret dX3_told_92 rfl rfl (Nat.le_refl _) (Nat.le_refl _) ?_
    exact jr_i rfl
  by_cases q5 : v = 5
  · subst q5
    refine j_tabI (off := 92) (tgt := 93) dX3_told_1 (by decide) (by decide) (by decide) (by decide) ?_
    refine j_aload_n dX3_told_93 rfl ?_
    refine j_get 6 dX3_told_94 (by first | rfl | assumption) in_X3 rfl (by decide) q1105 rfl ?_
    refine j_iret dX3_told_97 rfl rfl (Nat.le_refl _) (Nat.le_refl _) ?_
    exact jr_i rfl
  by_cases q6 : v = 6
  · subst q6
    refine j_tabI (off := 97) (tgt := 98) dX3_told_1 (by decide) (by decide) (by decide) (by decide) ?_
    refine j_aload_n dX3_told_98 rfl ?_
    refine j_get 21 dX3_told_99 (by first | rfl | assumption) in_X3 rfl (by decide) q1120 rfl ?_
    refine j_iret dX3_told_102 rfl rfl (Nat.le_refl _) (Nat.le_refl _) ?_
    exact jr_i rfl
  by_cases q7 : v = 7
  · subst q7
    refine j_tabI (off := 102) (tgt := 103) dX3_told_1 (by decide) (by decide) (by decide) (by decide) ?_
    refine j_aload_n dX3_told_103 rfl ?_
    refine j_get 22 dX3_told_104 (by first | rfl | assumption) in_X3 rfl (by decide) q1121 rfl ?_
    refine j_iret dX3_told_107 rfl rfl (Nat.le_refl _) (Nat.le_refl _) ?_
    exact jr_i rfl
  by_cases q8 : v = 8
  · subst q8
    refine j_tabI (off := 107) (tgt := 108) dX3_told_1 (by decide) (by decide) (by decide) (by decide) ?_
    refine j_aload_n dX3_told_108 rfl ?_
    refine j_get 23 dX3_told_109 (by first | rfl | assumption) in_X3 rfl (by decide) q1122 rfl ?_
    refine j_iret dX3_told_112 rfl rfl (Nat.le_refl _) (Nat.le_refl _) ?_
    exact jr_i rfl
  by_cases q9 : v = 9
  · subst q9
    refine j_tabI (off := 112) (tgt := 113) dX3_told_1 (by decide) (by decide) (by decide) (by decide) ?_
    refine j_aload_n dX3_told_113 rfl ?_
    refine j_get 24 dX3_told_114 (by first | rfl | assumption) in_X3 rfl (by decide) q1123 rfl ?_
    refine j_if_eq (tgt := 124) dX3_told_117 (by decide) (fun c117 => ?_) (fun c117 => ?_)
    · skip
      have c117 : t = 0 := (nI_eq (by omega) (by decide)).mp (show nI t = nI 0 from c117)
      refine j_iconst (v := 0) dX3_told_124 (by decide) ?_
      refine j_iret dX3_told_125 rfl rfl (Nat.le_refl _) (Nat.le_refl _) ?_
      exact jr_i (by rw [c117]; rfl)
    · skip
      have c117 : t = 1 := by
        have : ¬ t = 0 := fun q => c117 (by rw [q]; rfl)
        omega
      refine j_iconst (v := 1) dX3_told_120 (by decide) ?_
      refine j_goto (tgt := 125) dX3_told_121 (by decide) ?_
      refine j_iret dX3_told_125 rfl rfl (Nat.le_refl _) (Nat.le_refl _) ?_
      exact jr_i (by rw [c117]; rfl)
  by_cases q10 : v = 10
  · subst q10
    refine j_tabI (off := 125) (tgt := 126) dX3_told_1 (by decide) (by decide) (by decide) (by decide) ?_
    refine j_aload_n dX3_told_126 rfl ?_
    refine j_get 25 dX3_told_127 (by first | rfl | assumption) in_X3 rfl (by decide) q1124 rfl ?_
    refine j_iret dX3_told_130 rfl rfl (Nat.le_refl _) (Nat.le_refl _) ?_
    exact jr_i rfl
  by_cases q11 : v = 11
  · subst q11
    refine j_tabI (off := 130) (tgt := 131) dX3_told_1 (by decide) (by decide) (by decide) (by decide) ?_
    refine j_aload_n dX3_told_131 rfl ?_
    refine j_get 27 dX3_told_132 (by first | rfl | assumption) in_X3 rfl (by decide) q1126 rfl ?_
    refine j_iret dX3_told_135 rfl rfl (Nat.le_refl _) (Nat.le_refl _) ?_
    exact jr_i rfl
  by_cases q12 : v = 12
  · subst q12
    refine j_tabI (off := 135) (tgt := 136) dX3_told_1 (by decide) (by decide) (by decide) (by decide) ?_
    refine j_aload_n dX3_told_136 rfl ?_
    refine j_get 29 dX3_told_137 (by first | rfl | assumption) in_X3 rfl (by decide) q1128 rfl ?_
    refine j_iret dX3_told_140 rfl rfl (Nat.le_refl _) (Nat.le_refl _) ?_
    exact jr_i rfl
  have ho : v.toInt < 0 ∨ ((12 : Nat) : Int) < v.toInt := sw_out (by decide) (fun k hk e => by
    match k, hk, e with
    | 0, _, e => exact q0 e
    | 1, _, e => exact q1 e
    | 2, _, e => exact q2 e
    | 3, _, e => exact q3 e
    | 4, _, e => exact q4 e
    | 5, _, e => exact q5 e
    | 6, _, e => exact q6 e
    | 7, _, e => exact q7 e
    | 8, _, e => exact q8 e
    | 9, _, e => exact q9 e
    | 10, _, e => exact q10 e
    | 11, _, e => exact q11 e
    | 12, _, e => exact q12 e
    | k + 13, hk, _ => omega)
  refine j_tabO (tgt := 141) dX3_told_1 ho (by decide) ?_
  refine j_ldc dX3_told_141 q1231 ?_
  refine j_iret dX3_told_143 rfl rfl (Nat.le_refl _) (Nat.le_refl _) ?_
  exact jr_i (swI_out ho).symm
