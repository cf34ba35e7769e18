set_option maxRecDepth 100000
set_option maxHeartbeats 4000000 in
theorem f_dbegin {l : Launch} {D : va_G} {dT : Nat → ClassId} {H0 : Heap} {r : Nat → Nat} {nx : Nat} {g : j_H} {F : Nat → Nat} {V : Nat → Nat → Int32}  : MC (gG l D dT H0) yX2_begin cX2_begin 1 none 0 0 0 [.ref (r 1)] r (fkS r dT g F V) nx (jq_v r (fkS r dT g (va_up (va_up (va_up F 0 0) 1 0) 2 0) V) nx) := by
  refine MC.ofJ [some (.ref (r 1))] rfl (Nat.le_of_ble_eq_true rfl) (by decide) ?_
  refine j_aload_n dX2_begin_0 rfl ?_
  refine j_iconst (v := 0) dX2_begin_1 (by decide) ?_
  refine j_eqi (show (0 : Int32) = nI 0 from rfl) ?_
  refine j_put 0 dX2_begin_2 (by first | rfl | assumption) in_X2 tyX2_ok nmX2 rfl (by decide) q124 rfl rfl rfl (by first | decide | simp) ?_
  refine j_fkF (F' := va_up F 0 0) (by decide) fo0 rfl ?_
  refine j_aload_n dX2_begin_5 rfl ?_
  refine j_iconst (v := 0) dX2_begin_6 (by decide) ?_
  refine j_eqi (show (0 : Int32) = nI 0 from rfl) ?_
  refine j_put 1 dX2_begin_7 (by first | rfl | assumption) in_X2 tyX2_ok nmX2 rfl (by decide) q126 rfl rfl rfl (by first | decide | simp) ?_
  refine j_fkF (F' := va_up (va_up F 0 0) 1 0) (by decide) fo1 rfl ?_
  refine j_aload_n dX2_begin_10 rfl ?_
  refine j_iconst (v := 0) dX2_begin_11 (by decide) ?_
  refine j_eqi (show (0 : Int32) = nI 0 from rfl) ?_
  refine j_put 3 dX2_begin_12 (by first | rfl | assumption) in_X2 tyX2_ok nmX2 rfl (by decide) q130 rfl rfl rfl (by first | decide | simp) ?_
  refine j_fkF (F' := va_up (va_up (va_up F 0 0) 1 0) 2 0) (by decide) fo2 rfl ?_
  refine j_vret dX2_begin_15 rfl (Nat.le_refl _) (Nat.le_refl _) ?_
  exact jr_v rfl
set_option maxHeartbeats 4000000 in
theorem f_set18_1 {l : Launch} {D : va_G} {dT : Nat → ClassId} {H0 : Heap} {r : Nat → Nat} {nx : Nat} {g : j_H} {F : Nat → Nat} {V : Nat → Nat → Int32}  : MC (gG l D dT H0) yX2_set cX2_set 2 none 1 0 0 [.ref (r 18), .ref (r 1)] r (fkS r dT g F V) nx (jq_v r (fkS r dT g (va_up (va_up (va_up (va_up F 10 (F 0)) 11 (F 1)) 12 (F 2)) 13 (F 3)) (va_up V 19 (va_cpy (V 2) (V 19) 0 0 6))) nx) := by
  refine MC.ofJ [some (.ref (r 18)), some (.ref (r 1))] rfl (Nat.le_of_ble_eq_true rfl) (by decide) ?_
  refine j_aload_n dX2_set_0 rfl ?_
  refine j_aload_n dX2_set_1 rfl ?_
  refine j_get 0 dX2_set_2 (by first | rfl | assumption) in_X2 rfl (by decide) q124 rfl ?_
  refine j_put 0 dX2_set_5 (by first | rfl | assumption) in_X2 tyX2_ok nmX2 rfl (by decide) q124 rfl rfl rfl (by first | decide | simp) ?_
  refine j_fkF (F' := (va_up F 10 (F 0))) (by decide) fo10 rfl ?_
  refine j_aload_n dX2_set_8 rfl ?_
  refine j_aload_n dX2_set_9 rfl ?_
  refine j_get 1 dX2_set_10 (by first | rfl | assumption) in_X2 rfl (by decide) q126 rfl ?_
  refine j_put 1 dX2_set_13 (by first | rfl | assumption) in_X2 tyX2_ok nmX2 rfl (by decide) q126 rfl rfl rfl (by first | decide | simp) ?_
  refine j_fkF (F' := (va_up (va_up F 10 (F 0)) 11 (F 1))) (by decide) fo11 rfl ?_
  refine j_aload_n dX2_set_16 rfl ?_
  refine j_get 2 dX2_set_17 (by first | rfl | assumption) in_X2 rfl (by decide) q128 rfl ?_
  refine j_iconst (v := 0) dX2_set_20 (by decide) ?_
  refine j_aload_n dX2_set_21 rfl ?_
  refine j_get 2 dX2_set_22 (by first | rfl | assumption) in_X2 rfl (by decide) q128 rfl ?_
  refine j_iconst (v := 0) dX2_set_25 (by decide) ?_
  refine j_bipush (v := 6) dX2_set_26 (by decide) ?_
  refine j_copy (i0 := 2) (i1 := 19) (sp := 0) (dp := 0) (n := 6) (n0 := 6) (n1 := 6) (t0 := 0) (ty := .int) dX2_set_28 q1087 rfl rfl rfl rfl rfl rfl rfl rfl (by decide) (by decide) (by decide) (by decide) (fun i _ => rfl) ⟨Nat.le_of_ble_eq_true rfl, Nat.le_of_ble_eq_true rfl⟩ ?_
  refine j_fkV (f := va_cpy (V 2) (V 19) 0 0 6) (by decide) rfl ?_
  refine j_aload_n dX2_set_31 rfl ?_
  refine j_aload_n dX2_set_32 rfl ?_
  refine j_get 3 dX2_set_33 (by first | rfl | assumption) in_X2 rfl (by decide) q130 rfl ?_
  refine j_put 3 dX2_set_36 (by first | rfl | assumption) in_X2 tyX2_ok nmX2 rfl (by decide) q130 rfl rfl rfl (by first | decide | simp) ?_
  refine j_fkF (F' := (va_up (va_up (va_up F 10 (F 0)) 11 (F 1)) 12 (F 2))) (by decide) fo12 rfl ?_
  refine j_aload_n dX2_set_39 rfl ?_
  refine j_aload_n dX2_set_40 rfl ?_
  refine j_get 4 dX2_set_41 (by first | rfl | assumption) in_X2 rfl (by decide) q132 rfl ?_
  refine j_put 4 dX2_set_44 (by first | rfl | assumption) in_X2 tyX2_ok nmX2 rfl (by decide) q132 rfl rfl rfl (by first | decide | simp) ?_
  refine j_fkF (F' := (va_up (va_up (va_up (va_up F 10 (F 0)) 11 (F 1)) 12 (F 2)) 13 (F 3))) (by decide) fo13 rfl ?_
  refine j_vret dX2_set_47 rfl (Nat.le_refl _) (Nat.le_refl _) ?_
  exact jr_v rfl
set_option maxHeartbeats 4000000 in
theorem f_set20_1 {l : Launch} {D : va_G} {dT : Nat → ClassId} {H0 : Heap} {r : Nat → Nat} {nx : Nat} {g : j_H} {F : Nat → Nat} {V : Nat → Nat → Int32}  : MC (gG l D dT H0) yX2_set cX2_set 2 none 1 0 0 [.ref (r 20), .ref (r 1)] r (fkS r dT g F V) nx (jq_v r (fkS r dT g (va_up (va_up (va_up (va_up F 20 (F 0)) 21 (F 1)) 22 (F 2)) 23 (F 3)) (va_up V 21 (va_cpy (V 2) (V 21) 0 0 6))) nx) := by
  refine MC.ofJ [some (.ref (r 20)), some (.ref (r 1))] rfl (Nat.le_of_ble_eq_true rfl) (by decide) ?_
  refine j_aload_n dX2_set_0 rfl ?_
  refine j_aload_n dX2_set_1 rfl ?_
  refine j_get 0 dX2_set_2 (by first | rfl | assumption) in_X2 rfl (by decide) q124 rfl ?_
  refine j_put 0 dX2_set_5 (by first | rfl | assumption) in_X2 tyX2_ok nmX2 rfl (by decide) q124 rfl rfl rfl (by first | decide | simp) ?_
  refine j_fkF (F' := (va_up F 20 (F 0))) (by decide) fo20 rfl ?_
  refine j_aload_n dX2_set_8 rfl ?_
  refine j_aload_n dX2_set_9 rfl ?_
  refine j_get 1 dX2_set_10 (by first | rfl | assumption) in_X2 rfl (by decide) q126 rfl ?_
  refine j_put 1 dX2_set_13 (by first | rfl | assumption) in_X2 tyX2_ok nmX2 rfl (by decide) q126 rfl rfl rfl (by first | decide | simp) ?_
  refine j_fkF (F' := (va_up (va_up F 20 (F 0)) 21 (F 1))) (by decide) fo21 rfl ?_
  refine j_aload_n dX2_set_16 rfl ?_
  refine j_get 2 dX2_set_17 (by first | rfl | assumption) in_X2 rfl (by decide) q128 rfl ?_
  refine j_iconst (v := 0) dX2_set_20 (by decide) ?_
  refine j_aload_n dX2_set_21 rfl ?_
  refine j_get 2 dX2_set_22 (by first | rfl | assumption) in_X2 rfl (by decide) q128 rfl ?_
  refine j_iconst (v := 0) dX2_set_25 (by decide) ?_
  refine j_bipush (v := 6) dX2_set_26 (by decide) ?_
  refine j_copy (i0 := 2) (i1 := 21) (sp := 0) (dp := 0) (n := 6) (n0 := 6) (n1 := 6) (t0 := 0) (ty := .int) dX2_set_28 q1087 rfl rfl rfl rfl rfl rfl rfl rfl (by decide) (by decide) (by decide) (by decide) (fun i _ => rfl) ⟨Nat.le_of_ble_eq_true rfl, Nat.le_of_ble_eq_true rfl⟩ ?_
  refine j_fkV (f := va_cpy (V 2) (V 21) 0 0 6) (by decide) rfl ?_
  refine j_aload_n dX2_set_31 rfl ?_
  refine j_aload_n dX2_set_32 rfl ?_
  refine j_get 3 dX2_set_33 (by first | rfl | assumption) in_X2 rfl (by decide) q130 rfl ?_
  refine j_put 3 dX2_set_36 (by first | rfl | assumption) in_X2 tyX2_ok nmX2 rfl (by decide) q130 rfl rfl rfl (by first | decide | simp) ?_
  refine j_fkF (F' := (va_up (va_up (va_up F 20 (F 0)) 21 (F 1)) 22 (F 2))) (by decide) fo22 rfl ?_
  refine j_aload_n dX2_set_39 rfl ?_
  refine j_aload_n dX2_set_40 rfl ?_
  refine j_get 4 dX2_set_41 (by first | rfl | assumption) in_X2 rfl (by decide) q132 rfl ?_
  refine j_put 4 dX2_set_44 (by first | rfl | assumption) in_X2 tyX2_ok nmX2 rfl (by decide) q132 rfl rfl rfl (by first | decide | simp) ?_
  refine j_fkF (F' := (va_up (va_up (va_up (va_up F 20 (F 0)) 21 (F 1)) 22 (F 2)) 23 (F 3))) (by decide) fo23 rfl ?_
  refine j_vret dX2_set_47 rfl (Nat.le_refl _) (Nat.le_refl _) ?_
  exact jr_v rfl
set_option maxHeartbeats 4000000 in
theorem f_set1_18 {l : Launch} {D : va_G} {dT : Nat → ClassId} {H0 : Heap} {r : Nat → Nat} {nx : Nat} {g : j_H} {F : Nat → Nat} {V : Nat → Nat → Int32}  : MC (gG l D dT H0) yX2_set cX2_set 2 none 1 0 0 [.ref (r 1), .ref (r 18)] r (fkS r dT g F V) nx (jq_v r (fkS r dT g (va_up (va_up (va_up (va_up F 0 (F 10)) 1 (F 11)) 2 (F 12)) 3 (F 13)) (va_up V 2 (va_cpy (V 19) (V 2) 0 0 6))) nx) := by
  refine MC.ofJ [some (.ref (r 1)), some (.ref (r 18))] rfl (Nat.le_of_ble_eq_true rfl) (by decide) ?_
  refine j_aload_n dX2_set_0 rfl ?_
  refine j_aload_n dX2_set_1 rfl ?_
  refine j_get 0 dX2_set_2 (by first | rfl | assumption) in_X2 rfl (by decide) q124 rfl ?_
  refine j_put 0 dX2_set_5 (by first | rfl | assumption) in_X2 tyX2_ok nmX2 rfl (by decide) q124 rfl rfl rfl (by first | decide | simp) ?_
  refine j_fkF (F' := (va_up F 0 (F 10))) (by decide) fo0 rfl ?_
  refine j_aload_n dX2_set_8 rfl ?_
  refine j_aload_n dX2_set_9 rfl ?_
  refine j_get 1 dX2_set_10 (by first | rfl | assumption) in_X2 rfl (by decide) q126 rfl ?_
  refine j_put 1 dX2_set_13 (by first | rfl | assumption) in_X2 tyX2_ok nmX2 rfl (by decide) q126 rfl rfl rfl (by first | decide | simp) ?_
  refine j_fkF (F' := (va_up (va_up F 0 (F 10)) 1 (F 11))) (by decide) fo1 rfl ?_
  refine j_aload_n dX2_set_16 rfl ?_
  refine j_get 2 dX2_set_17 (by first | rfl | assumption) in_X2 rfl (by decide) q128 rfl ?_
  refine j_iconst (v := 0) dX2_set_20 (by decide) ?_
  refine j_aload_n dX2_set_21 rfl ?_
  refine j_get 2 dX2_set_22 (by first | rfl | assumption) in_X2 rfl (by decide) q128 rfl ?_
  refine j_iconst (v := 0) dX2_set_25 (by decide) ?_
  refine j_bipush (v := 6) dX2_set_26 (by decide) ?_
  refine j_copy (i0 := 19) (i1 := 2) (sp := 0) (dp := 0) (n := 6) (n0 := 6) (n1 := 6) (t0 := 0) (ty := .int) dX2_set_28 q1087 rfl rfl rfl rfl rfl rfl rfl rfl (by decide) (by decide) (by decide) (by decide) (fun i _ => rfl) ⟨Nat.le_of_ble_eq_true rfl, Nat.le_of_ble_eq_true rfl⟩ ?_
  refine j_fkV (f := va_cpy (V 19) (V 2) 0 0 6) (by decide) rfl ?_
  refine j_aload_n dX2_set_31 rfl ?_
  refine j_aload_n dX2_set_32 rfl ?_
  refine j_get 3 dX2_set_33 (by first | rfl | assumption) in_X2 rfl (by decide) q130 rfl ?_
  refine j_put 3 dX2_set_36 (by first | rfl | assumption) in_X2 tyX2_ok nmX2 rfl (by decide) q130 rfl rfl rfl (by first | decide | simp) ?_
  refine j_fkF (F' := (va_up (va_up (va_up F 0 (F 10)) 1 (F 11)) 2 (F 12))) (by decide) fo2 rfl ?_
  refine j_aload_n dX2_set_39 rfl ?_
  refine j_aload_n dX2_set_40 rfl ?_
  refine j_get 4 dX2_set_41 (by first | rfl | assumption) in_X2 rfl (by decide) q132 rfl ?_
  refine j_put 4 dX2_set_44 (by first | rfl | assumption) in_X2 tyX2_ok nmX2 rfl (by decide) q132 rfl rfl rfl (by first | decide | simp) ?_
  refine j_fkF (F' := (va_up (va_up (va_up (va_up F 0 (F 10)) 1 (F 11)) 2 (F 12)) 3 (F 13))) (by decide) fo3 rfl ?_
  refine j_vret dX2_set_47 rfl (Nat.le_refl _) (Nat.le_refl _) ?_
  exact jr_v rfl
set_option maxHeartbeats 4000000 in
theorem f_set1_20 {l : Launch} {D : va_G} {dT : Nat → ClassId} {H0 : Heap} {r : Nat → Nat} {nx : Nat} {g : j_H} {F : Nat → Nat} {V : Nat → Nat → Int32}  : MC (gG l D dT H0) yX2_set cX2_set 2 none 1 0 0 [.ref (r 1), .ref (r 20)] r (fkS r dT g F V) nx (jq_v r (fkS r dT g (va_up (va_up (va_up (va_up F 0 (F 20)) 1 (F 21)) 2 (F 22)) 3 (F 23)) (va_up V 2 (va_cpy (V 21) (V 2) 0 0 6))) nx) := by
  refine MC.ofJ [some (.ref (r 1)), some (.ref (r 20))] rfl (Nat.le_of_ble_eq_true rfl) (by decide) ?_
  refine j_aload_n dX2_set_0 rfl ?_
  refine j_aload_n dX2_set_1 rfl ?_
  refine j_get 0 dX2_set_2 (by first | rfl | assumption) in_X2 rfl (by decide) q124 rfl ?_
  refine j_put 0 dX2_set_5 (by first | rfl | assumption) in_X2 tyX2_ok nmX2 rfl (by decide) q124 rfl rfl rfl (by first | decide | simp) ?_
  refine j_fkF (F' := (va_up F 0 (F 20))) (by decide) fo0 rfl ?_
  refine j_aload_n dX2_set_8 rfl ?_
  refine j_aload_n dX2_set_9 rfl ?_
  refine j_get 1 dX2_set_10 (by first | rfl | assumption) in_X2 rfl (by decide) q126 rfl ?_
  refine j_put 1 dX2_set_13 (by first | rfl | assumption) in_X2 tyX2_ok nmX2 rfl (by decide) q126 rfl rfl rfl (by first | decide | simp) ?_
  refine j_fkF (F' := (va_up (va_up F 0 (F 20)) 1 (F 21))) (by decide) fo1 rfl ?_
  refine j_aload_n dX2_set_16 rfl ?_
  refine j_get 2 dX2_set_17 (by first | rfl | assumption) in_X2 rfl (by decide) q128 rfl ?_
  refine j_iconst (v := 0) dX2_set_20 (by decide) ?_
  refine j_aload_n dX2_set_21 rfl ?_
  refine j_get 2 dX2_set_22 (by first | rfl | assumption) in_X2 rfl (by decide) q128 rfl ?_
  refine j_iconst (v := 0) dX2_set_25 (by decide) ?_
  refine j_bipush (v := 6) dX2_set_26 (by decide) ?_
  refine j_copy (i0 := 21) (i1 := 2) (sp := 0) (dp := 0) (n := 6) (n0 := 6) (n1 := 6) (t0 := 0) (ty := .int) dX2_set_28 q1087 rfl rfl rfl rfl rfl rfl rfl rfl (by decide) (by decide) (by decide) (by decide) (fun i _ => rfl) ⟨Nat.le_of_ble_eq_true rfl, Nat.le_of_ble_eq_true rfl⟩ ?_
  refine j_fkV (f := va_cpy (V 21) (V 2) 0 0 6) (by decide) rfl ?_
  refine j_aload_n dX2_set_31 rfl ?_
  refine j_aload_n dX2_set_32 rfl ?_
  refine j_get 3 dX2_set_33 (by first | rfl | assumption) in_X2 rfl (by decide) q130 rfl ?_
  refine j_put 3 dX2_set_36 (by first | rfl | assumption) in_X2 tyX2_ok nmX2 rfl (by decide) q130 rfl rfl rfl (by first | decide | simp) ?_
  refine j_fkF (F' := (va_up (va_up (va_up F 0 (F 20)) 1 (F 21)) 2 (F 22))) (by decide) fo2 rfl ?_
  refine j_aload_n dX2_set_39 rfl ?_
  refine j_aload_n dX2_set_40 rfl ?_
  refine j_get 4 dX2_set_41 (by first | rfl | assumption) in_X2 rfl (by decide) q132 rfl ?_
  refine j_put 4 dX2_set_44 (by first | rfl | assumption) in_X2 tyX2_ok nmX2 rfl (by decide) q132 rfl rfl rfl (by first | decide | simp) ?_
  refine j_fkF (F' := (va_up (va_up (va_up (va_up F 0 (F 20)) 1 (F 21)) 2 (F 22)) 3 (F 23))) (by decide) fo3 rfl ?_
  refine j_vret dX2_set_47 rfl (Nat.le_refl _) (Nat.le_refl _) ?_
  exact jr_v rfl
def rnd (s : Nat) : Nat := (s * 1103515245 + 12345) % 2147483648
theorem rnd_lt (s : Nat) : rnd s < 2147483648 := Nat.mod_lt _ (by decide)
theorem rnd_l {s : Nat} (hs : s < 2 ^ 31) : (((nI s).toInt64 * 1103515245 + 12345) - ((nI s).toInt64 * 1103515245 + 12345) / 2147483648 * 2147483648) = lN (rnd s) := by
  rw [nI_l hs, show (1103515245 : Int64) = lN 1103515245 from rfl, show (12345 : Int64) = lN 12345 from rfl, show (2147483648 : Int64) = lN 2147483648 from rfl, lN_mul, lN_add, pk_lRem (by omega) (by decide) (by decide)]
  rfl
/-- the same, its numbers hidden behind a name -/
theorem rn_l {rn : Nat → Nat} (hrn : rn = rnd) {s : Nat} (hs : s < 2 ^ 31) : (((nI s).toInt64 * 1103515245 + 12345) - ((nI s).toInt64 * 1103515245 + 12345) / 2147483648 * 2147483648) = lN (rn s) := by rw [hrn]; exact rnd_l hs
theorem rn_lt {rn : Nat → Nat} (hrn : rn = rnd) (s : Nat) : rn s < 2147483648 := by rw [hrn]; exact rnd_lt s
set_option maxHeartbeats 4000000 in
theorem f_draw {l : Launch} {D : va_G} {dT : Nat → ClassId} {H0 : Heap} {r : Nat → Nat} {nx : Nat} {g : j_H} {F : Nat → Nat} {V : Nat → Nat → Int32} {rn : Nat → Nat} (hrn : rn = rnd) (hs : F 3 < 2 ^ 31) (n : Nat) (hn : 0 < n) (hn2 : n < 2 ^ 31) : MC (gG l D dT H0) yX2_draw cX2_draw 2 (some .int) 0 0 0 [.ref (r 1), .int (nI n)] r (fkS r dT g F V) nx (jq_i (nI (rn (F 3) / 65536 % n)) r (fkS r dT g (va_up F 3 (rn (F 3))) V) nx) := by
  have hrl := rn_lt hrn (F 3)
  refine MC.ofJ [some (.ref (r 1)), some (.int (nI n))] rfl (Nat.le_of_ble_eq_true rfl) (by decide) ?_
  refine j_aload_n dX2_draw_0 rfl ?_
  refine j_aload_n dX2_draw_1 rfl ?_
  refine j_get 4 dX2_draw_2 (by first | rfl | assumption) in_X2 rfl (by decide) q132 rfl ?_
  refine j_i2l dX2_draw_5 ?_
  refine j_ldc2 dX2_draw_6 q1071 ?_
  refine j_lmul dX2_draw_9 ?_
  refine j_ldc2 dX2_draw_10 q1072 ?_
  refine j_ladd dX2_draw_13 ?_
  refine j_ldc2 dX2_draw_14 q1073 ?_
  refine j_lrem dX2_draw_17 (by decide) ?_
  refine j_eql (rn_l hrn hs) ?_
  refine j_l2i dX2_draw_18 ?_
  refine j_eqi (lN_i _) ?_
  refine j_put 4 dX2_draw_19 (by first | rfl | assumption) in_X2 tyX2_ok nmX2 rfl (by decide) q132 rfl rfl rfl (by first | decide | simp) ?_
  refine j_fkF (F' := va_up F 3 (rn (F 3))) (by decide) fo3 rfl ?_
  refine j_aload_n dX2_draw_22 rfl ?_
  refine j_get 4 dX2_draw_23 (by first | rfl | assumption) in_X2 rfl (by decide) q132 rfl ?_
  refine j_ldc dX2_draw_26 q1074 ?_
  refine j_idiv dX2_draw_28 (by decide) ?_
  refine j_iload_n dX2_draw_29 rfl ?_
  refine j_irem dX2_draw_30 (nI_ne hn hn2) ?_
  refine j_iret dX2_draw_31 rfl rfl (Nat.le_refl _) (Nat.le_refl _) ?_
  exact jr_i (by rw [show (65536 : Int32) = nI 65536 from rfl]; show nI (rn (F 3)) / nI 65536 - nI (rn (F 3)) / nI 65536 / nI n * nI n = _; rw [pk_div (by omega) (by decide) (by decide), pk_rem (by omega) hn hn2])
/-- one draw and the stroke that it says -/
def dstep (rn : Nat → Nat) (kd bs m nk : Nat) (ks : Nat → KY) (F : Nat → Nat) : Nat → Nat :=
  va_up (va_up (va_up F 3 (rn (F 3))) 0 (strk kd bs m (ks (rn (F 3) / 65536 % nk)) (F 0))) 1 (F 1 + (ks (rn (F 3) / 65536 % nk)).2.1)
def dsteps (rn : Nat → Nat) (kd bs m nk : Nat) (ks : Nat → KY) : Nat → (Nat → Nat) → Nat → Nat
  | 0, F => F
  | n + 1, F => dsteps rn kd bs m nk ks n (dstep rn kd bs m nk ks F)
set_option maxHeartbeats 4000000 in
theorem f_drifto {l : Launch} {D : va_G} {dT : Nat → ClassId} {H0 : Heap} {r : Nat → Nat} {nx : Nat} {g : j_H} {F : Nat → Nat} {V : Nat → Nat → Int32} (v : Int32) (hv : ¬ (1 ≤ v ∧ v ≤ 999)) : MC (gG l D dT H0) yX0_drift cX0_drift 3 (some .int) 5 0 0 [.ref (r 0), .int v] r (fkS r dT g F V) nx (jq_i (-1000000002) r (fkS r dT g F V) nx) := by
  refine MC.ofJ [some (.ref (r 0)), some (.int v), none] rfl (Nat.le_of_ble_eq_true rfl) (by decide) ?_
  refine j_iload_n dX0_drift_0 rfl ?_
  refine j_iconst (v := 1) dX0_drift_1 (by decide) ?_
  refine j_sipush (v := 999) dX0_drift_2 (by decide) ?_
  refine j_callSi (c_X0_isIn _ _ _) dX0_drift_5 pmX0_isIn q220 q221 rfl ⟨Nat.le_of_ble_eq_true rfl, Nat.le_of_ble_eq_true rfl⟩ ⟨Nat.le_of_ble_eq_true rfl, Nat.le_of_ble_eq_true rfl⟩ rfl (Nat.le_of_ble_eq_true rfl) ?_
  refine j_ifb_ne (tgt := 14) dX0_drift_8 (by decide) (fun c8 => absurd c8 hv) (fun c8 => ?_)
  refine j_ldc dX0_drift_11 q223 ?_
  refine j_iret dX0_drift_13 rfl rfl (Nat.le_refl _) (Nat.le_refl _) ?_
  exact jr_i rfl
set_option maxHeartbeats 4000000 in
theorem f_drift0 {l : Launch} {D : va_G} {dT : Nat → ClassId} {H0 : Heap} {r : Nat → Nat} {nx : Nat} {g : j_H} {F : Nat → Nat} {V : Nat → Nat → Int32} {d0 : Value} {a nk : Nat} (h60 : g 60 = some (rcell d0 a nk)) (hnk : nk = 0) (v : Int32) (hv : 1 ≤ v ∧ v ≤ 999) : MC (gG l D dT H0) yX0_drift cX0_drift 3 (some .int) 5 0 0 [.ref (r 0), .int v] r (fkS r dT g F V) nx (jq_i (-1000000003) r (fkS r dT g F V) nx) := by
  refine MC.ofJ [some (.ref (r 0)), some (.int v), none] rfl (Nat.le_of_ble_eq_true rfl) (by decide) ?_
  refine j_iload_n dX0_drift_0 rfl ?_
  refine j_iconst (v := 1) dX0_drift_1 (by decide) ?_
  refine j_sipush (v := 999) dX0_drift_2 (by decide) ?_
  refine j_callSi (c_X0_isIn _ _ _) dX0_drift_5 pmX0_isIn q220 q221 rfl ⟨Nat.le_of_ble_eq_true rfl, Nat.le_of_ble_eq_true rfl⟩ ⟨Nat.le_of_ble_eq_true rfl, Nat.le_of_ble_eq_true rfl⟩ rfl (Nat.le_of_ble_eq_true rfl) ?_
  refine j_ifb_ne (tgt := 14) dX0_drift_8 (by decide) (fun c8 => ?_) (fun c8 => absurd hv c8)
  refine j_aload_n dX0_drift_14 rfl ?_
  refine j_get 0 dX0_drift_15 (by first | rfl | assumption) in_X0 rfl (by decide) q153 rfl ?_
  refine j_getN 2 dX0_drift_18 (by first | rfl | assumption) in_X1 rfl (by decide) (fun _ hs => hs.1 _ qn109) rfl ?_
  refine j_if_ne (tgt := 27) dX0_drift_21 (by decide) (fun c21 => absurd (by rw [hnk]; rfl) c21) (fun c21 => ?_)
  refine j_ldc dX0_drift_24 q970 ?_
  refine j_iret dX0_drift_26 rfl rfl (Nat.le_refl _) (Nat.le_refl _) ?_
  exact jr_i rfl
set_option maxHeartbeats 4000000 in
theorem f_drift1 {l : Launch} {D : va_G} {dT : Nat → ClassId} {H0 : Heap} {r : Nat → Nat} {nx : Nat} {g : j_H} {F : Nat → Nat} {V : Nat → Nat → Int32} {nk : Nat} (h60 : g 60 = some (rcell (.ref (r 61)) (r 62) nk)) {kd bs fg m : Nat} {ks : Nat → KY} (hK : fkK r dT g kd bs fg m nk ks) {rn : Nat → Nat} (hrn : rn = rnd) (hnk : 0 < nk) (n : Nat) (hn : 1 ≤ n ∧ n ≤ 999) (hs : F 0 < 8 * m * m) (hsd : F 3 < 2 ^ 31) : MC (gG l D dT H0) yX0_drift cX0_drift 3 (some .int) 5 0 0 [.ref (r 0), .int (nI n)] r (fkS r dT g F V) nx (jq_i (nI (sS m (dsteps rn kd bs m nk ks n F 0))) r (fkS r dT g (dsteps rn kd bs m nk ks n F) V) nx) := by
  obtain ⟨h61, hD, hkn, ka, h62, hks⟩ := id hK
  have hm := hD.pos
  have hm2 := hD.le
  refine MC.ofJ [some (.ref (r 0)), some (.int (nI n)), none] rfl (Nat.le_of_ble_eq_true rfl) (by decide) ?_
  refine j_iload_n dX0_drift_0 rfl ?_
  refine j_iconst (v := 1) dX0_drift_1 (by decide) ?_
  refine j_sipush (v := 999) dX0_drift_2 (by decide) ?_
  refine j_callSi (c_X0_isIn _ _ _) dX0_drift_5 pmX0_isIn q220 q221 rfl ⟨Nat.le_of_ble_eq_true rfl, Nat.le_of_ble_eq_true rfl⟩ ⟨Nat.le_of_ble_eq_true rfl, Nat.le_of_ble_eq_true rfl⟩ rfl (Nat.le_of_ble_eq_true rfl) ?_
  refine j_ifb_ne (tgt := 14) dX0_drift_8 (by decide) (fun c8 => ?_) (fun c8 => absurd ⟨nI_le (a := 1) hn.1 (by omega), nI_le (b := 999) hn.2 (by decide)⟩ c8)
  refine j_aload_n dX0_drift_14 rfl ?_
  refine j_get 0 dX0_drift_15 (by first | rfl | assumption) in_X0 rfl (by decide) q153 rfl ?_
  refine j_getN 2 dX0_drift_18 (by first | rfl | assumption) in_X1 rfl (by decide) (fun _ hs => hs.1 _ qn109) rfl ?_
  refine j_if_ne (tgt := 27) dX0_drift_21 (by decide) (fun c21 => ?_) (fun c21 => absurd c21 (nI_ne hnk (by omega)))
  refine j_iconst (v := 0) dX0_drift_27 (by decide) ?_
  refine j_istore_n dX0_drift_28 (by decide) rfl ?_
  refine j_lp3 (fun (i : Nat) (j : Nat) (F1 : Nat → Nat) => fkS r dT g F1 V) (fun i _ _ => [some (.ref (r 0)), some (.int (nI n)), some (.int (nI i))]) (fun i j F1 => i + j = n ∧ F1 0 < 8 * m * m ∧ F1 3 < 2 ^ 31 ∧ dsteps rn kd bs m nk ks j F1 = dsteps rn kd bs m nk ks n F) (fun _ j _ => j) ?_ 0 n F ⟨by omega, hs, hsd, rfl⟩
  intro i j F1 ⟨hij, hs1, hsd1, hF1⟩ ih
  have hl1 := Nat.mod_lt (rn (F1 3) / 65536) hnk
  have hl2 := strk_lt hD (hks _ hl1).2.2 hs1
  refine j_iload_n dX0_drift_29 rfl ?_
  refine j_iload_n dX0_drift_30 rfl ?_
  refine j_icmp_ge (tgt := 58) dX0_drift_31 (by decide) (fun c31 => ?_) (fun c31 => ?_)
  · skip
    have hz : j = 0 := by
      have := (nI_leI (by omega) (by omega)).mp c31
      omega
    subst hz
    have hF1 : F1 = dsteps rn kd bs m nk ks n F := hF1
    refine j_aload_n dX0_drift_58 rfl ?_
    refine j_aload_n dX0_drift_59 rfl ?_
    refine j_get 1 dX0_drift_60 (by first | rfl | assumption) in_X0 rfl (by decide) q154 rfl ?_
    refine j_getN 0 dX0_drift_63 (by first | rfl | assumption) in_X2 rfl (by decide) (fun _ hs => hs.1 _ qn125) rfl ?_
    refine j_callVi (f_shown1 h60 h61 hm hm2 (F1 0) (Nat.lt_of_lt_of_le hs1 (mm_le hm2))) dX0_drift_66 pmX0_shown q771 q773 qs14 (by first | rfl | assumption) rfl rfl rfl ⟨Nat.le_of_ble_eq_true rfl, Nat.le_of_ble_eq_true rfl⟩ ⟨Nat.le_of_ble_eq_true rfl, Nat.le_of_ble_eq_true rfl⟩ rfl (Nat.le_of_ble_eq_true rfl) ?_
    refine j_iret dX0_drift_69 rfl rfl (Nat.le_refl _) (Nat.le_refl _) ?_
    subst hF1
    exact jr_i rfl
  · skip
    have hin : i < n := Nat.lt_of_not_le (fun q => c31 (nI_le q (by omega)))
    obtain ⟨j, rfl⟩ : ∃ j', j = j' + 1 := ⟨j - 1, by omega⟩
    refine j_aload_n dX0_drift_34 rfl ?_
    refine j_aload_n dX0_drift_35 rfl ?_
    refine j_get 1 dX0_drift_36 (by first | rfl | assumption) in_X0 rfl (by decide) q154 rfl ?_
    refine j_aload_n dX0_drift_39 rfl ?_
    refine j_get 0 dX0_drift_40 (by first | rfl | assumption) in_X0 rfl (by decide) q153 rfl ?_
    refine j_getN 2 dX0_drift_43 (by first | rfl | assumption) in_X1 rfl (by decide) (fun _ hs => hs.1 _ qn109) rfl ?_
    refine j_callVi (f_draw hrn hsd1 nk hnk (by omega)) dX0_drift_46 pmX2_draw q1067 q1068 q1069 (by first | rfl | assumption) rfl rfl rfl ⟨Nat.le_of_ble_eq_true rfl, Nat.le_of_ble_eq_true rfl⟩ ⟨Nat.le_of_ble_eq_true rfl, Nat.le_of_ble_eq_true rfl⟩ rfl (Nat.le_of_ble_eq_true rfl) ?_
    refine j_callVv (f_strikeNow h60 hK _ hl1 hs1) dX0_drift_49 pmX0_strikeNow q849 q851 qs16 (by first | rfl | assumption) rfl rfl rfl ⟨Nat.le_of_ble_eq_true rfl, Nat.le_of_ble_eq_true rfl⟩ ⟨Nat.le_of_ble_eq_true rfl, Nat.le_of_ble_eq_true rfl⟩ rfl (Nat.le_of_ble_eq_true rfl) ?_
    refine j_iinc dX0_drift_52 rfl (by decide) rfl ?_
    refine j_goto (tgt := 29) dX0_drift_55 (by decide) ?_
    exact j_re (by rw [nI_inc]; rfl) rfl rfl (ih (i + 1) j (dstep rn kd bs m nk ks F1) ⟨by omega, hl2, rn_lt hrn _, hF1⟩ (by omega))
/-- what is struck goes on as long as it shows what is written -/
def jdg (stp : Nat → Nat → Nat) (shw : Nat → Int32) (bk : Nat → Nat) (bv : Nat → Int32) : Nat → Nat → Nat → Int32
  | 0, _, _ => -1
  | n + 1, i, s => if shw (stp (bk i) s) = bv i then jdg stp shw bk bv n (i + 1) (stp (bk i) s) else nI i
set_option maxHeartbeats 4000000 in
theorem f_judge1 {l : Launch} {D : va_G} {dT : Nat → ClassId} {H0 : Heap} {r : Nat → Nat} {nx : Nat} {g : j_H} {F : Nat → Nat} {V : Nat → Nat → Int32} {nk : Nat} (h60 : g 60 = some (rcell (.ref (r 61)) (r 62) nk)) {kd bs fg m : Nat} {ks : Nat → KY} (hK : fkK r dT g kd bs fg m nk ks) (bk : Nat → Nat) (hbk : ∀ i, i < F 4 → V 3 i = nI (bk i) ∧ bk i < nk) (hw : F 4 ≤ 40) (hs : F 0 < 8 * m * m) : MC (gG l D dT H0) yX0_judge cX0_judge 3 (some .int) 5 0 0 [.ref (r 0)] r (fkS r dT g F V) nx (jq_i (jdg (fun k s => strk kd bs m (ks k) s) (fun s => nI (sS m s)) bk (V 4) (F 4) 0 (F 0)) r (fkS r dT g F V) nx) := by
  obtain ⟨h61, hD, hkn, ka, h62, hks⟩ := id hK
  have hm := hD.pos
  have hm2 := hD.le
  refine MC.ofJ [some (.ref (r 0)), none, none] rfl (Nat.le_of_ble_eq_true rfl) (by decide) ?_
  refine j_aload_n dX0_judge_0 rfl ?_
  refine j_get 1 dX0_judge_1 (by first | rfl | assumption) in_X0 rfl (by decide) q154 rfl ?_
  refine j_getN 0 dX0_judge_4 (by first | rfl | assumption) in_X2 rfl (by decide) (fun _ hs => hs.1 _ qn125) rfl ?_
  refine j_istore_n dX0_judge_7 (by decide) rfl ?_
  refine j_iconst (v := 0) dX0_judge_8 (by decide) ?_
  refine j_istore_n dX0_judge_9 (by decide) rfl ?_
  refine j_lp3 (fun (i : Nat) (j : Nat) (s : Nat) => fkS r dT g F V) (fun i _ s => [some (.ref (r 0)), some (.int (nI s)), some (.int (nI i))]) (fun i j s => i + j = F 4 ∧ s < 8 * m * m ∧ jdg (fun k s => strk kd bs m (ks k) s) (fun s => nI (sS m s)) bk (V 4) j i s = jdg (fun k s => strk kd bs m (ks k) s) (fun s => nI (sS m s)) bk (V 4) (F 4) 0 (F 0)) (fun _ j _ => j) ?_ 0 (F 4) (F 0) ⟨by omega, hs, rfl⟩
  intro i j s ⟨hij, hs1, hj⟩ ih
  refine j_iload_n dX0_judge_10 rfl ?_
  refine j_aload_n dX0_judge_11 rfl ?_
  refine j_get 4 dX0_judge_12 (by first | rfl | assumption) in_X0 rfl (by decide) q157 rfl ?_
  refine j_icmp_ge (tgt := 59) dX0_judge_15 (by decide) (fun c15 => ?_) (fun c15 => ?_)
  · skip
    have hz : j = 0 := by
      have := (nI_leI (by omega) (by omega)).mp c15
      omega
    subst hz
    refine j_iconst (v := (-1)) dX0_judge_59 (by decide) ?_
    refine j_iret dX0_judge_60 rfl rfl (Nat.le_refl _) (Nat.le_refl _) ?_
    exact jr_i hj
  · skip
    have hin : i < F 4 := Nat.lt_of_not_le (fun q => c15 (nI_le q (by omega)))
    obtain ⟨j, rfl⟩ : ∃ j', j = j' + 1 := ⟨j - 1, by omega⟩
    have hki := (hbk i hin).2
    have hl2 := strk_lt hD (hks _ hki).2.2 hs1
    refine j_aload_n dX0_judge_18 rfl ?_
    refine j_get 0 dX0_judge_19 (by first | rfl | assumption) in_X0 rfl (by decide) q153 rfl ?_
    refine j_getN 1 dX0_judge_22 (by first | rfl | assumption) in_X1 rfl (by decide) (fun _ hs => hs.1 _ qn107) rfl ?_
    refine j_aload_n dX0_judge_25 rfl ?_
    refine j_get 2 dX0_judge_26 (by first | rfl | assumption) in_X0 rfl (by decide) q155 rfl ?_
    refine j_iload_n dX0_judge_29 rfl ?_
    refine j_iald 0 _ dX0_judge_30 (by first | rfl | assumption) rfl rfl (by first | assumption | omega) (by decide) ?_
    refine j_eqi (hbk i hin).1 ?_
    refine j_aald (w := .ref (r (bk i + 63))) 4 _ dX0_judge_31 (by first | rfl | assumption) rfl rfl rfl (by omega) (by decide) (by rw [(hks _ hki).1]; rfl) ?_
    refine j_iload_n dX0_judge_32 rfl ?_
    refine j_strike (i := 61) (q := ks (bk i)) dX0_judge_33 (by exact (hks _ hki).2.1) (by exact h61) hD (hks _ hki).2.2 hs1 ⟨Nat.le_of_ble_eq_true rfl, Nat.le_of_ble_eq_true rfl, Nat.le_of_ble_eq_true rfl, Nat.le_of_ble_eq_true rfl⟩ (Nat.le_of_ble_eq_true rfl) ?_
    refine j_istore_n dX0_judge_36 (by decide) rfl ?_
    refine j_aload_n dX0_judge_37 rfl ?_
    refine j_iload_n dX0_judge_38 rfl ?_
    refine j_callVi (f_shown1 h60 h61 hm hm2 (strk kd bs m (ks (bk i)) s) (Nat.lt_of_lt_of_le hl2 (mm_le hm2))) dX0_judge_39 pmX0_shown q771 q773 qs14 (by first | rfl | assumption) rfl rfl rfl ⟨Nat.le_of_ble_eq_true rfl, Nat.le_of_ble_eq_true rfl⟩ ⟨Nat.le_of_ble_eq_true rfl, Nat.le_of_ble_eq_true rfl⟩ rfl (Nat.le_of_ble_eq_true rfl) ?_
    refine j_aload_n dX0_judge_42 rfl ?_
    refine j_get 3 dX0_judge_43 (by first | rfl | assumption) in_X0 rfl (by decide) q156 rfl ?_
    refine j_iload_n dX0_judge_46 rfl ?_
    refine j_iald 0 _ dX0_judge_47 (by first | rfl | assumption) rfl rfl (by first | assumption | omega) (by decide) ?_
    refine j_icmp_eq (tgt := 53) dX0_judge_48 (by decide) (fun c48 => ?_) (fun c48 => ?_)
    · skip
      refine j_iinc dX0_judge_53 rfl (by decide) rfl ?_
      refine j_goto (tgt := 10) dX0_judge_56 (by decide) ?_
      exact j_re (by rw [nI_inc]; rfl) rfl rfl (ih (i + 1) j _ ⟨by omega, hl2, by rw [← hj]; exact (if_pos c48).symm⟩ (by omega))
    · skip
      refine j_iload_n dX0_judge_51 rfl ?_
      refine j_iret dX0_judge_52 rfl rfl (Nat.le_refl _) (Nat.le_refl _) ?_
      refine jr_i ?_
      rw [← hj]
      exact (if_neg c48).symm
set_option maxHeartbeats 4000000 in
theorem f_judge0 {l : Launch} {D : va_G} {dT : Nat → ClassId} {H0 : Heap} {r : Nat → Nat} {nx : Nat} {g : j_H} {F : Nat → Nat} {V : Nat → Nat → Int32} (hw : F 4 = 0) : MC (gG l D dT H0) yX0_judge cX0_judge 3 (some .int) 5 0 0 [.ref (r 0)] r (fkS r dT g F V) nx (jq_i (-1) r (fkS r dT g F V) nx) := by
  refine MC.ofJ [some (.ref (r 0)), none, none] rfl (Nat.le_of_ble_eq_true rfl) (by decide) ?_
  refine j_aload_n dX0_judge_0 rfl ?_
  refine j_get 1 dX0_judge_1 (by first | rfl | assumption) in_X0 rfl (by decide) q154 rfl ?_
  refine j_getN 0 dX0_judge_4 (by first | rfl | assumption) in_X2 rfl (by decide) (fun _ hs => hs.1 _ qn125) rfl ?_
  refine j_istore_n dX0_judge_7 (by decide) rfl ?_
  refine j_iconst (v := 0) dX0_judge_8 (by decide) ?_
  refine j_istore_n dX0_judge_9 (by decide) rfl ?_
  refine j_iload_n dX0_judge_10 rfl ?_
  refine j_aload_n dX0_judge_11 rfl ?_
  refine j_get 4 dX0_judge_12 (by first | rfl | assumption) in_X0 rfl (by decide) q157 rfl ?_
  refine j_icmp_ge (tgt := 59) dX0_judge_15 (by decide) (fun c15 => ?_) (fun c15 => absurd (by rw [hw]; decide) c15)
  refine j_iconst (v := (-1)) dX0_judge_59 (by decide) ?_
  refine j_iret dX0_judge_60 rfl rfl (Nat.le_refl _) (Nat.le_refl _) ?_
  exact jr_i rfl
