set_option maxRecDepth 100000
theorem i32_dec (x : Int32) : x + Int32.ofInt (-1) = x - 1 := by
  rw [show Int32.ofInt (-1) = -(1 : Int32) by decide, ← Int32.sub_eq_add_neg]
theorem upsame {α : Type} {f : Nat → α} {k : Nat} : va_up f k (f k) = f := by
  funext j
  by_cases h : j = k
  · subst h; rw [va_up_self]
  · rw [va_up_ne _ _ h]
set_option maxHeartbeats 4000000 in
theorem f_keepo {l : Launch} {D : va_G} {dT : Nat → ClassId} {H0 : Heap} {r : Nat → Nat} {nx : Nat} {g : j_H} {F : Nat → Nat} {V : Nat → Nat → Int32} (v : Int32) (hv : ¬ (0 ≤ v ∧ v ≤ 1)) : MC (gG l D dT H0) yX0_keep cX0_keep 2 (some .int) 2 0 0 [.ref (r 0), .int v] r (fkS r dT g F V) nx (jq_i (-1000000001) r (fkS r dT g F V) nx) := by
  refine MC.ofJ [some (.ref (r 0)), some (.int v)] rfl (Nat.le_of_ble_eq_true rfl) (by decide) ?_
  refine j_iload_n dX0_keep_0 rfl ?_
  refine j_iconst (v := 0) dX0_keep_1 (by decide) ?_
  refine j_iconst (v := 1) dX0_keep_2 (by decide) ?_
  refine j_callSi (c_X0_isIn _ _ _) dX0_keep_3 pmX0_isIn q220 q221 rfl ⟨Nat.le_of_ble_eq_true rfl, Nat.le_of_ble_eq_true rfl⟩ ⟨Nat.le_of_ble_eq_true rfl, Nat.le_of_ble_eq_true rfl⟩ rfl (Nat.le_of_ble_eq_true rfl) ?_
  refine j_ifb_ne (tgt := 12) dX0_keep_6 (by decide) (fun c6 => absurd c6 hv) (fun c6 => ?_)
  refine j_ldc dX0_keep_9 q795 ?_
  refine j_iret dX0_keep_11 rfl rfl (Nat.le_refl _) (Nat.le_refl _) ?_
  exact jr_i rfl
set_option maxHeartbeats 4000000 in
theorem f_goBacko {l : Launch} {D : va_G} {dT : Nat → ClassId} {H0 : Heap} {r : Nat → Nat} {nx : Nat} {g : j_H} {F : Nat → Nat} {V : Nat → Nat → Int32} (v : Int32) (hv : ¬ (0 ≤ v ∧ v ≤ 1)) : MC (gG l D dT H0) yX0_goBack cX0_goBack 2 (some .int) 2 0 0 [.ref (r 0), .int v] r (fkS r dT g F V) nx (jq_i (-1000000001) r (fkS r dT g F V) nx) := by
  refine MC.ofJ [some (.ref (r 0)), some (.int v)] rfl (Nat.le_of_ble_eq_true rfl) (by decide) ?_
  refine j_iload_n dX0_goBack_0 rfl ?_
  refine j_iconst (v := 0) dX0_goBack_1 (by decide) ?_
  refine j_iconst (v := 1) dX0_goBack_2 (by decide) ?_
  refine j_callSi (c_X0_isIn _ _ _) dX0_goBack_3 pmX0_isIn q220 q221 rfl ⟨Nat.le_of_ble_eq_true rfl, Nat.le_of_ble_eq_true rfl⟩ ⟨Nat.le_of_ble_eq_true rfl, Nat.le_of_ble_eq_true rfl⟩ rfl (Nat.le_of_ble_eq_true rfl) ?_
  refine j_ifb_ne (tgt := 12) dX0_goBack_6 (by decide) (fun c6 => absurd c6 hv) (fun c6 => ?_)
  refine j_ldc dX0_goBack_9 q795 ?_
  refine j_iret dX0_goBack_11 rfl rfl (Nat.le_refl _) (Nat.le_refl _) ?_
  exact jr_i rfl
set_option maxHeartbeats 4000000 in
theorem f_keep0 {l : Launch} {D : va_G} {dT : Nat → ClassId} {H0 : Heap} {r : Nat → Nat} {nx : Nat} {g : j_H} {F : Nat → Nat} {V : Nat → Nat → Int32}  : MC (gG l D dT H0) yX0_keep cX0_keep 2 (some .int) 2 0 0 [.ref (r 0), .int 0] r (fkS r dT g F V) nx (jq_i (1) r (fkS r dT g (va_up (va_up (va_up (va_up (va_up F 10 (F 0)) 11 (F 1)) 12 (F 2)) 13 (F 3)) 14 1) (va_up V 19 (va_cpy (V 2) (V 19) 0 0 6))) nx) := by
  refine MC.ofJ [some (.ref (r 0)), some (.int 0)] rfl (Nat.le_of_ble_eq_true rfl) (by decide) ?_
  refine j_iload_n dX0_keep_0 rfl ?_
  refine j_iconst (v := 0) dX0_keep_1 (by decide) ?_
  refine j_iconst (v := 1) dX0_keep_2 (by decide) ?_
  refine j_callSi (c_X0_isIn _ _ _) dX0_keep_3 pmX0_isIn q220 q221 rfl ⟨Nat.le_of_ble_eq_true rfl, Nat.le_of_ble_eq_true rfl⟩ ⟨Nat.le_of_ble_eq_true rfl, Nat.le_of_ble_eq_true rfl⟩ rfl (Nat.le_of_ble_eq_true rfl) ?_
  refine j_ifb_ne (tgt := 12) dX0_keep_6 (by decide) (fun c6 => ?_) (fun c6 => absurd (by decide) c6)
  refine j_aload_n dX0_keep_12 rfl ?_
  refine j_get 19 dX0_keep_13 (by first | rfl | assumption) in_X0 rfl (by decide) q172 rfl ?_
  refine j_iload_n dX0_keep_16 rfl ?_
  refine j_aald (w := .ref (r 18)) 5 0 dX0_keep_17 (by first | rfl | assumption) rfl rfl rfl (by decide) (by decide) rfl ?_
  refine j_aload_n dX0_keep_18 rfl ?_
  refine j_get 1 dX0_keep_19 (by first | rfl | assumption) in_X0 rfl (by decide) q154 rfl ?_
  refine j_callVv f_set18_1 dX0_keep_22 pmX2_set q1083 q1084 q1085 (by first | rfl | assumption) rfl rfl rfl ⟨Nat.le_of_ble_eq_true rfl, Nat.le_of_ble_eq_true rfl⟩ ⟨Nat.le_of_ble_eq_true rfl, Nat.le_of_ble_eq_true rfl⟩ rfl (Nat.le_of_ble_eq_true rfl) ?_
  refine j_aload_n dX0_keep_25 rfl ?_
  refine j_get 19 dX0_keep_26 (by first | rfl | assumption) in_X0 rfl (by decide) q172 rfl ?_
  refine j_iload_n dX0_keep_29 rfl ?_
  refine j_aald (w := .ref (r 18)) 5 0 dX0_keep_30 (by first | rfl | assumption) rfl rfl rfl (by decide) (by decide) rfl ?_
  refine j_iconst (v := 1) dX0_keep_31 (by decide) ?_
  refine j_eqi (show (1 : Int32) = nI 1 from rfl) ?_
  refine j_putN 5 dX0_keep_32 (by first | rfl | assumption) in_X2 tyX2_ok nmX2 rfl (by decide) (fun _ hs => hs.1 _ qn134) rfl rfl rfl (by first | decide | simp) ?_
  refine j_fkF (F' := va_up (va_up (va_up (va_up (va_up F 10 (F 0)) 11 (F 1)) 12 (F 2)) 13 (F 3)) 14 1) (by decide) fo14 rfl ?_
  refine j_iconst (v := 1) dX0_keep_35 (by decide) ?_
  refine j_iret dX0_keep_36 rfl rfl (Nat.le_refl _) (Nat.le_refl _) ?_
  exact jr_i rfl
set_option maxHeartbeats 4000000 in
theorem f_goBack0n {l : Launch} {D : va_G} {dT : Nat → ClassId} {H0 : Heap} {r : Nat → Nat} {nx : Nat} {g : j_H} {F : Nat → Nat} {V : Nat → Nat → Int32} (hk : F 14 = 0) : MC (gG l D dT H0) yX0_goBack cX0_goBack 2 (some .int) 2 0 0 [.ref (r 0), .int 0] r (fkS r dT g F V) nx (jq_i (-1000000003) r (fkS r dT g F V) nx) := by
  refine MC.ofJ [some (.ref (r 0)), some (.int 0)] rfl (Nat.le_of_ble_eq_true rfl) (by decide) ?_
  refine j_iload_n dX0_goBack_0 rfl ?_
  refine j_iconst (v := 0) dX0_goBack_1 (by decide) ?_
  refine j_iconst (v := 1) dX0_goBack_2 (by decide) ?_
  refine j_callSi (c_X0_isIn _ _ _) dX0_goBack_3 pmX0_isIn q220 q221 rfl ⟨Nat.le_of_ble_eq_true rfl, Nat.le_of_ble_eq_true rfl⟩ ⟨Nat.le_of_ble_eq_true rfl, Nat.le_of_ble_eq_true rfl⟩ rfl (Nat.le_of_ble_eq_true rfl) ?_
  refine j_ifb_ne (tgt := 12) dX0_goBack_6 (by decide) (fun c6 => ?_) (fun c6 => absurd (by decide) c6)
  refine j_aload_n dX0_goBack_12 rfl ?_
  refine j_get 19 dX0_goBack_13 (by first | rfl | assumption) in_X0 rfl (by decide) q172 rfl ?_
  refine j_iload_n dX0_goBack_16 rfl ?_
  refine j_aald (w := .ref (r 18)) 5 0 dX0_goBack_17 (by first | rfl | assumption) rfl rfl rfl (by decide) (by decide) rfl ?_
  refine j_getN 5 dX0_goBack_18 (by first | rfl | assumption) in_X2 rfl (by decide) (fun _ hs => hs.1 _ qn134) rfl ?_
  refine j_if_ne (tgt := 27) dX0_goBack_21 (by decide) (fun c21 => absurd (by rw [hk]; rfl) c21) (fun c21 => ?_)
  refine j_ldc dX0_goBack_24 q970 ?_
  refine j_iret dX0_goBack_26 rfl rfl (Nat.le_refl _) (Nat.le_refl _) ?_
  exact jr_i rfl
set_option maxHeartbeats 4000000 in
theorem f_goBack0 {l : Launch} {D : va_G} {dT : Nat → ClassId} {H0 : Heap} {r : Nat → Nat} {nx : Nat} {g : j_H} {F : Nat → Nat} {V : Nat → Nat → Int32} (hk : F 14 = 1) : MC (gG l D dT H0) yX0_goBack cX0_goBack 2 (some .int) 2 0 0 [.ref (r 0), .int 0] r (fkS r dT g F V) nx (jq_i (1) r (fkS r dT g (va_up (va_up (va_up (va_up F 0 (F 10)) 1 (F 11)) 2 (F 12)) 3 (F 13)) (va_up V 2 (va_cpy (V 19) (V 2) 0 0 6))) nx) := by
  refine MC.ofJ [some (.ref (r 0)), some (.int 0)] rfl (Nat.le_of_ble_eq_true rfl) (by decide) ?_
  refine j_iload_n dX0_goBack_0 rfl ?_
  refine j_iconst (v := 0) dX0_goBack_1 (by decide) ?_
  refine j_iconst (v := 1) dX0_goBack_2 (by decide) ?_
  refine j_callSi (c_X0_isIn _ _ _) dX0_goBack_3 pmX0_isIn q220 q221 rfl ⟨Nat.le_of_ble_eq_true rfl, Nat.le_of_ble_eq_true rfl⟩ ⟨Nat.le_of_ble_eq_true rfl, Nat.le_of_ble_eq_true rfl⟩ rfl (Nat.le_of_ble_eq_true rfl) ?_
  refine j_ifb_ne (tgt := 12) dX0_goBack_6 (by decide) (fun c6 => ?_) (fun c6 => absurd (by decide) c6)
  refine j_aload_n dX0_goBack_12 rfl ?_
  refine j_get 19 dX0_goBack_13 (by first | rfl | assumption) in_X0 rfl (by decide) q172 rfl ?_
  refine j_iload_n dX0_goBack_16 rfl ?_
  refine j_aald (w := .ref (r 18)) 5 0 dX0_goBack_17 (by first | rfl | assumption) rfl rfl rfl (by decide) (by decide) rfl ?_
  refine j_getN 5 dX0_goBack_18 (by first | rfl | assumption) in_X2 rfl (by decide) (fun _ hs => hs.1 _ qn134) rfl ?_
  refine j_if_ne (tgt := 27) dX0_goBack_21 (by decide) (fun c21 => ?_) (fun c21 => absurd c21 (by rw [hk]; decide))
  refine j_aload_n dX0_goBack_27 rfl ?_
  refine j_get 1 dX0_goBack_28 (by first | rfl | assumption) in_X0 rfl (by decide) q154 rfl ?_
  refine j_aload_n dX0_goBack_31 rfl ?_
  refine j_get 19 dX0_goBack_32 (by first | rfl | assumption) in_X0 rfl (by decide) q172 rfl ?_
  refine j_iload_n dX0_goBack_35 rfl ?_
  refine j_aald (w := .ref (r 18)) 5 0 dX0_goBack_36 (by first | rfl | assumption) rfl rfl rfl (by decide) (by decide) rfl ?_
  refine j_callVv f_set1_18 dX0_goBack_37 pmX2_set q1083 q1084 q1085 (by first | rfl | assumption) rfl rfl rfl ⟨Nat.le_of_ble_eq_true rfl, Nat.le_of_ble_eq_true rfl⟩ ⟨Nat.le_of_ble_eq_true rfl, Nat.le_of_ble_eq_true rfl⟩ rfl (Nat.le_of_ble_eq_true rfl) ?_
  refine j_iconst (v := 1) dX0_goBack_40 (by decide) ?_
  refine j_iret dX0_goBack_41 rfl rfl (Nat.le_refl _) (Nat.le_refl _) ?_
  exact jr_i rfl
set_option maxHeartbeats 4000000 in
theorem f_keep1 {l : Launch} {D : va_G} {dT : Nat → ClassId} {H0 : Heap} {r : Nat → Nat} {nx : Nat} {g : j_H} {F : Nat → Nat} {V : Nat → Nat → Int32}  : MC (gG l D dT H0) yX0_keep cX0_keep 2 (some .int) 2 0 0 [.ref (r 0), .int 1] r (fkS r dT g F V) nx (jq_i (1) r (fkS r dT g (va_up (va_up (va_up (va_up (va_up F 20 (F 0)) 21 (F 1)) 22 (F 2)) 23 (F 3)) 24 1) (va_up V 21 (va_cpy (V 2) (V 21) 0 0 6))) nx) := by
  refine MC.ofJ [some (.ref (r 0)), some (.int 1)] rfl (Nat.le_of_ble_eq_true rfl) (by decide) ?_
  refine j_iload_n dX0_keep_0 rfl ?_
  refine j_iconst (v := 0) dX0_keep_1 (by decide) ?_
  refine j_iconst (v := 1) dX0_keep_2 (by decide) ?_
  refine j_callSi (c_X0_isIn _ _ _) dX0_keep_3 pmX0_isIn q220 q221 rfl ⟨Nat.le_of_ble_eq_true rfl, Nat.le_of_ble_eq_true rfl⟩ ⟨Nat.le_of_ble_eq_true rfl, Nat.le_of_ble_eq_true rfl⟩ rfl (Nat.le_of_ble_eq_true rfl) ?_
  refine j_ifb_ne (tgt := 12) dX0_keep_6 (by decide) (fun c6 => ?_) (fun c6 => absurd (by decide) c6)
  refine j_aload_n dX0_keep_12 rfl ?_
  refine j_get 19 dX0_keep_13 (by first | rfl | assumption) in_X0 rfl (by decide) q172 rfl ?_
  refine j_iload_n dX0_keep_16 rfl ?_
  refine j_aald (w := .ref (r 20)) 5 1 dX0_keep_17 (by first | rfl | assumption) rfl rfl rfl (by decide) (by decide) rfl ?_
  refine j_aload_n dX0_keep_18 rfl ?_
  refine j_get 1 dX0_keep_19 (by first | rfl | assumption) in_X0 rfl (by decide) q154 rfl ?_
  refine j_callVv f_set20_1 dX0_keep_22 pmX2_set q1083 q1084 q1085 (by first | rfl | assumption) rfl rfl rfl ⟨Nat.le_of_ble_eq_true rfl, Nat.le_of_ble_eq_true rfl⟩ ⟨Nat.le_of_ble_eq_true rfl, Nat.le_of_ble_eq_true rfl⟩ rfl (Nat.le_of_ble_eq_true rfl) ?_
  refine j_aload_n dX0_keep_25 rfl ?_
  refine j_get 19 dX0_keep_26 (by first | rfl | assumption) in_X0 rfl (by decide) q172 rfl ?_
  refine j_iload_n dX0_keep_29 rfl ?_
  refine j_aald (w := .ref (r 20)) 5 1 dX0_keep_30 (by first | rfl | assumption) rfl rfl rfl (by decide) (by decide) rfl ?_
  refine j_iconst (v := 1) dX0_keep_31 (by decide) ?_
  refine j_eqi (show (1 : Int32) = nI 1 from rfl) ?_
  refine j_putN 5 dX0_keep_32 (by first | rfl | assumption) in_X2 tyX2_ok nmX2 rfl (by decide) (fun _ hs => hs.1 _ qn134) rfl rfl rfl (by first | decide | simp) ?_
  refine j_fkF (F' := va_up (va_up (va_up (va_up (va_up F 20 (F 0)) 21 (F 1)) 22 (F 2)) 23 (F 3)) 24 1) (by decide) fo24 rfl ?_
  refine j_iconst (v := 1) dX0_keep_35 (by decide) ?_
  refine j_iret dX0_keep_36 rfl rfl (Nat.le_refl _) (Nat.le_refl _) ?_
  exact jr_i rfl
set_option maxHeartbeats 4000000 in
theorem f_goBack1n {l : Launch} {D : va_G} {dT : Nat → ClassId} {H0 : Heap} {r : Nat → Nat} {nx : Nat} {g : j_H} {F : Nat → Nat} {V : Nat → Nat → Int32} (hk : F 24 = 0) : MC (gG l D dT H0) yX0_goBack cX0_goBack 2 (some .int) 2 0 0 [.ref (r 0), .int 1] r (fkS r dT g F V) nx (jq_i (-1000000003) r (fkS r dT g F V) nx) := by
  refine MC.ofJ [some (.ref (r 0)), some (.int 1)] rfl (Nat.le_of_ble_eq_true rfl) (by decide) ?_
  refine j_iload_n dX0_goBack_0 rfl ?_
  refine j_iconst (v := 0) dX0_goBack_1 (by decide) ?_
  refine j_iconst (v := 1) dX0_goBack_2 (by decide) ?_
  refine j_callSi (c_X0_isIn _ _ _) dX0_goBack_3 pmX0_isIn q220 q221 rfl ⟨Nat.le_of_ble_eq_true rfl, Nat.le_of_ble_eq_true rfl⟩ ⟨Nat.le_of_ble_eq_true rfl, Nat.le_of_ble_eq_true rfl⟩ rfl (Nat.le_of_ble_eq_true rfl) ?_
  refine j_ifb_ne (tgt := 12) dX0_goBack_6 (by decide) (fun c6 => ?_) (fun c6 => absurd (by decide) c6)
  refine j_aload_n dX0_goBack_12 rfl ?_
  refine j_get 19 dX0_goBack_13 (by first | rfl | assumption) in_X0 rfl (by decide) q172 rfl ?_
  refine j_iload_n dX0_goBack_16 rfl ?_
  refine j_aald (w := .ref (r 20)) 5 1 dX0_goBack_17 (by first | rfl | assumption) rfl rfl rfl (by decide) (by decide) rfl ?_
  refine j_getN 5 dX0_goBack_18 (by first | rfl | assumption) in_X2 rfl (by decide) (fun _ hs => hs.1 _ qn134) rfl ?_
  refine j_if_ne (tgt := 27) dX0_goBack_21 (by decide) (fun c21 => absurd (by rw [hk]; rfl) c21) (fun c21 => ?_)
  refine j_ldc dX0_goBack_24 q970 ?_
  refine j_iret dX0_goBack_26 rfl rfl (Nat.le_refl _) (Nat.le_refl _) ?_
  exact jr_i rfl
set_option maxHeartbeats 4000000 in
theorem f_goBack1 {l : Launch} {D : va_G} {dT : Nat → ClassId} {H0 : Heap} {r : Nat → Nat} {nx : Nat} {g : j_H} {F : Nat → Nat} {V : Nat → Nat → Int32} (hk : F 24 = 1) : MC (gG l D dT H0) yX0_goBack cX0_goBack 2 (some .int) 2 0 0 [.ref (r 0), .int 1] r (fkS r dT g F V) nx (jq_i (1) r (fkS r dT g (va_up (va_up (va_up (va_up F 0 (F 20)) 1 (F 21)) 2 (F 22)) 3 (F 23)) (va_up V 2 (va_cpy (V 21) (V 2) 0 0 6))) nx) := by
  refine MC.ofJ [some (.ref (r 0)), some (.int 1)] rfl (Nat.le_of_ble_eq_true rfl) (by decide) ?_
  refine j_iload_n dX0_goBack_0 rfl ?_
  refine j_iconst (v := 0) dX0_goBack_1 (by decide) ?_
  refine j_iconst (v := 1) dX0_goBack_2 (by decide) ?_
  refine j_callSi (c_X0_isIn _ _ _) dX0_goBack_3 pmX0_isIn q220 q221 rfl ⟨Nat.le_of_ble_eq_true rfl, Nat.le_of_ble_eq_true rfl⟩ ⟨Nat.le_of_ble_eq_true rfl, Nat.le_of_ble_eq_true rfl⟩ rfl (Nat.le_of_ble_eq_true rfl) ?_
  refine j_ifb_ne (tgt := 12) dX0_goBack_6 (by decide) (fun c6 => ?_) (fun c6 => absurd (by decide) c6)
  refine j_aload_n dX0_goBack_12 rfl ?_
  refine j_get 19 dX0_goBack_13 (by first | rfl | assumption) in_X0 rfl (by decide) q172 rfl ?_
  refine j_iload_n dX0_goBack_16 rfl ?_
  refine j_aald (w := .ref (r 20)) 5 1 dX0_goBack_17 (by first | rfl | assumption) rfl rfl rfl (by decide) (by decide) rfl ?_
  refine j_getN 5 dX0_goBack_18 (by first | rfl | assumption) in_X2 rfl (by decide) (fun _ hs => hs.1 _ qn134) rfl ?_
  refine j_if_ne (tgt := 27) dX0_goBack_21 (by decide) (fun c21 => ?_) (fun c21 => absurd c21 (by rw [hk]; decide))
  refine j_aload_n dX0_goBack_27 rfl ?_
  refine j_get 1 dX0_goBack_28 (by first | rfl | assumption) in_X0 rfl (by decide) q154 rfl ?_
  refine j_aload_n dX0_goBack_31 rfl ?_
  refine j_get 19 dX0_goBack_32 (by first | rfl | assumption) in_X0 rfl (by decide) q172 rfl ?_
  refine j_iload_n dX0_goBack_35 rfl ?_
  refine j_aald (w := .ref (r 20)) 5 1 dX0_goBack_36 (by first | rfl | assumption) rfl rfl rfl (by decide) (by decide) rfl ?_
  refine j_callVv f_set1_20 dX0_goBack_37 pmX2_set q1083 q1084 q1085 (by first | rfl | assumption) rfl rfl rfl ⟨Nat.le_of_ble_eq_true rfl, Nat.le_of_ble_eq_true rfl⟩ ⟨Nat.le_of_ble_eq_true rfl, Nat.le_of_ble_eq_true rfl⟩ rfl (Nat.le_of_ble_eq_true rfl) ?_
  refine j_iconst (v := 1) dX0_goBack_40 (by decide) ?_
  refine j_iret dX0_goBack_41 rfl rfl (Nat.le_refl _) (Nat.le_refl _) ?_
  exact jr_i rfl
set_option maxHeartbeats 4000000 in
theorem f_feedo {l : Launch} {D : va_G} {dT : Nat → ClassId} {H0 : Heap} {r : Nat → Nat} {nx : Nat} {g : j_H} {F : Nat → Nat} {V : Nat → Nat → Int32} (v : Int32) (b : Int64) (hv : ¬ (1 ≤ v ∧ v ≤ 8)) : MC (gG l D dT H0) yX0_feed cX0_feed 5 (some .int) 1 0 0 [.ref (r 0), .int v, .long b] r (fkS r dT g F V) nx (jq_i (-1000000002) r (fkS r dT g F V) nx) := by
  refine MC.ofJ [some (.ref (r 0)), some (.int v), some (.long b), none, none] rfl (Nat.le_of_ble_eq_true rfl) (by decide) ?_
  refine j_iload_n dX0_feed_0 rfl ?_
  refine j_iconst (v := 1) dX0_feed_1 (by decide) ?_
  refine j_bipush (v := 8) dX0_feed_2 (by decide) ?_
  refine j_callSi (c_X0_isIn _ _ _) dX0_feed_4 pmX0_isIn q220 q221 rfl ⟨Nat.le_of_ble_eq_true rfl, Nat.le_of_ble_eq_true rfl⟩ ⟨Nat.le_of_ble_eq_true rfl, Nat.le_of_ble_eq_true rfl⟩ rfl (Nat.le_of_ble_eq_true rfl) ?_
  refine j_ifb_ne (tgt := 13) dX0_feed_7 (by decide) (fun c7 => absurd c7 hv) (fun c7 => ?_)
  refine j_ldc dX0_feed_10 q223 ?_
  refine j_iret dX0_feed_12 rfl rfl (Nat.le_refl _) (Nat.le_refl _) ?_
  exact jr_i rfl
set_option maxHeartbeats 4000000 in
theorem f_feedf {l : Launch} {D : va_G} {dT : Nat → ClassId} {H0 : Heap} {r : Nat → Nat} {nx : Nat} {g : j_H} {F : Nat → Nat} {V : Nat → Nat → Int32} (n : Nat) (hn : 1 ≤ n ∧ n ≤ 8) (b : Int64) (hf : 400 < F 5 + n) (hz : F 5 ≤ 400) : MC (gG l D dT H0) yX0_feed cX0_feed 5 (some .int) 1 0 0 [.ref (r 0), .int (nI n), .long b] r (fkS r dT g F V) nx (jq_i (-1000000004) r (fkS r dT g F V) nx) := by
  refine MC.ofJ [some (.ref (r 0)), some (.int (nI n)), some (.long b), none, none] rfl (Nat.le_of_ble_eq_true rfl) (by decide) ?_
  refine j_iload_n dX0_feed_0 rfl ?_
  refine j_iconst (v := 1) dX0_feed_1 (by decide) ?_
  refine j_bipush (v := 8) dX0_feed_2 (by decide) ?_
  refine j_callSi (c_X0_isIn _ _ _) dX0_feed_4 pmX0_isIn q220 q221 rfl ⟨Nat.le_of_ble_eq_true rfl, Nat.le_of_ble_eq_true rfl⟩ ⟨Nat.le_of_ble_eq_true rfl, Nat.le_of_ble_eq_true rfl⟩ rfl (Nat.le_of_ble_eq_true rfl) ?_
  refine j_ifb_ne (tgt := 13) dX0_feed_7 (by decide) (fun c7 => ?_) (fun c7 => absurd ⟨nI_le (a := 1) hn.1 (by omega), nI_le (b := 8) hn.2 (by decide)⟩ c7)
  refine j_aload_n dX0_feed_13 rfl ?_
  refine j_get 6 dX0_feed_14 (by first | rfl | assumption) in_X0 rfl (by decide) q159 rfl ?_
  refine j_iload_n dX0_feed_17 rfl ?_
  refine j_iadd dX0_feed_18 ?_
  refine j_eqi (nI_add _ _) ?_
  refine j_sipush (v := 400) dX0_feed_19 (by decide) ?_
  refine j_icmp_le (tgt := 28) dX0_feed_22 (by decide) (fun c22 => absurd c22 (fun q => by have := (nI_leI (by omega) (by decide)).mp (show nI (F 5 + n) ≤ nI 400 from q); omega)) (fun c22 => ?_)
  refine j_ldc dX0_feed_25 q224 ?_
  refine j_iret dX0_feed_27 rfl rfl (Nat.le_refl _) (Nat.le_refl _) ?_
  exact jr_i rfl
/-- the byte that comes k-th from behind -/
def fbyte (b : Int64) (k : Nat) : Int32 := (b >>> ((8 * nI k).toInt64 &&& 63)).toInt32.toInt8.toInt32
/-- text with n bytes behind its first z -/
def ftext (b : Int64) (n z : Nat) (f : Nat → Int32) : Nat → Int32 := fun j => if z ≤ j ∧ j < z + n then fbyte b (n - 1 - (j - z)) else f j
set_option maxHeartbeats 4000000 in
theorem f_feed1 {l : Launch} {D : va_G} {dT : Nat → ClassId} {H0 : Heap} {r : Nat → Nat} {nx : Nat} {g : j_H} {F : Nat → Nat} {V : Nat → Nat → Int32} (n : Nat) (hn : 1 ≤ n ∧ n ≤ 8) (b : Int64) (hf : F 5 + n ≤ 400) : MC (gG l D dT H0) yX0_feed cX0_feed 5 (some .int) 1 0 0 [.ref (r 0), .int (nI n), .long b] r (fkS r dT g F V) nx (jq_i (nI (F 5 + n)) r (fkS r dT g (va_up F 5 (F 5 + n)) (va_up V 5 (ftext b n (F 5) (V 5)))) nx) := by
  refine MC.ofJ [some (.ref (r 0)), some (.int (nI n)), some (.long b), none, none] rfl (Nat.le_of_ble_eq_true rfl) (by decide) ?_
  refine j_iload_n dX0_feed_0 rfl ?_
  refine j_iconst (v := 1) dX0_feed_1 (by decide) ?_
  refine j_bipush (v := 8) dX0_feed_2 (by decide) ?_
  refine j_callSi (c_X0_isIn _ _ _) dX0_feed_4 pmX0_isIn q220 q221 rfl ⟨Nat.le_of_ble_eq_true rfl, Nat.le_of_ble_eq_true rfl⟩ ⟨Nat.le_of_ble_eq_true rfl, Nat.le_of_ble_eq_true rfl⟩ rfl (Nat.le_of_ble_eq_true rfl) ?_
  refine j_ifb_ne (tgt := 13) dX0_feed_7 (by decide) (fun c7 => ?_) (fun c7 => absurd ⟨nI_le (a := 1) hn.1 (by omega), nI_le (b := 8) hn.2 (by decide)⟩ c7)
  refine j_aload_n dX0_feed_13 rfl ?_
  refine j_get 6 dX0_feed_14 (by first | rfl | assumption) in_X0 rfl (by decide) q159 rfl ?_
  refine j_iload_n dX0_feed_17 rfl ?_
  refine j_iadd dX0_feed_18 ?_
  refine j_eqi (nI_add _ _) ?_
  refine j_sipush (v := 400) dX0_feed_19 (by decide) ?_
  refine j_icmp_le (tgt := 28) dX0_feed_22 (by decide) (fun c22 => ?_) (fun c22 => absurd (show nI (F 5 + n) ≤ nI 400 from nI_le hf (by decide)) c22)
  refine j_iload_n dX0_feed_28 rfl ?_
  refine j_iconst (v := 1) dX0_feed_29 (by decide) ?_
  refine j_isub dX0_feed_30 ?_
  refine j_istore dX0_feed_31 (by decide) rfl ?_
  refine j_re (h' := fkS r dT g (va_up F 5 (F 5 + (n - n))) (va_up V 5 (V 5))) rfl rfl (by rw [Nat.sub_self, Nat.add_zero, upsame, upsame]) ?_
  refine j_lp2 (fun (k : Nat) (f : Nat → Int32) => fkS r dT g (va_up F 5 (F 5 + (n - k))) (va_up V 5 f)) (fun k _ => [some (.ref (r 0)), some (.int (nI n)), some (.long b), none, some (.int (nI k - 1))]) (fun k f => k ≤ n ∧ ∀ j, f j = if F 5 ≤ j ∧ j < F 5 + (n - k) then fbyte b (n - 1 - (j - F 5)) else V 5 j) (fun k _ => k) ?_ n (V 5) ⟨Nat.le_refl _, fun j => by rw [if_neg (by omega)]⟩
  intro k f ⟨hk, hf1⟩ ih
  refine j_iload dX0_feed_33 rfl ?_
  refine j_if_lt (tgt := 72) dX0_feed_35 (by decide) (fun c35 => ?_) (fun c35 => ?_)
  · skip
    have hz : k = 0 := by
      rcases Nat.eq_zero_or_pos k with q | q
      · exact q
      · exact absurd c35 (by rw [show nI k - 1 = nI (k - 1) from pk_sub (b := 1) q]; exact nI_pos (by omega))
    subst hz
    have hfe : f = ftext b n (F 5) (V 5) := funext (fun j => hf1 j)
    subst hfe
    refine j_aload_n dX0_feed_72 rfl ?_
    refine j_get 6 dX0_feed_73 (by first | rfl | assumption) in_X0 rfl (by decide) q159 rfl ?_
    refine j_iret dX0_feed_76 rfl rfl (Nat.le_refl _) (Nat.le_refl _) ?_
    exact jr_i (by show nI (F 5 + (n - 0)) = _; rw [Nat.sub_zero])
  · skip
    have hz : 1 ≤ k := by
      rcases Nat.eq_zero_or_pos k with q | q
      · exact absurd (by rw [q]; decide) c35
      · exact q
    refine j_aload_n dX0_feed_38 rfl ?_
    refine j_get 5 dX0_feed_39 (by first | rfl | assumption) in_X0 rfl (by decide) q158 rfl ?_
    refine j_aload_n dX0_feed_42 rfl ?_
    refine j_get 6 dX0_feed_43 (by first | rfl | assumption) in_X0 rfl (by decide) q159 rfl ?_
    refine j_lload_n dX0_feed_46 rfl ?_
    refine j_bipush (v := 8) dX0_feed_47 (by decide) ?_
    refine j_iload dX0_feed_49 rfl ?_
    refine j_imul dX0_feed_51 ?_
    refine j_lshr dX0_feed_52 ?_
    refine j_l2i dX0_feed_53 ?_
    refine j_i2b dX0_feed_54 ?_
    refine j_bast 1 (F 5 + (n - k)) dX0_feed_55 (by first | rfl | assumption) rfl rfl (by show F 5 + (n - k) < 400; omega) (by decide) ?_
    refine j_fkV (f := upd f (F 5 + (n - k)) _) (by decide) rfl ?_
    refine j_aload_n dX0_feed_56 rfl ?_
    refine j_dup dX0_feed_57 rfl ?_
    refine j_get 6 dX0_feed_58 (by first | rfl | assumption) in_X0 rfl (by decide) q159 rfl ?_
    refine j_iconst (v := 1) dX0_feed_61 (by decide) ?_
    refine j_iadd dX0_feed_62 ?_
    refine j_eqi (nI_1 _) ?_
    refine j_put 6 dX0_feed_63 (by first | rfl | assumption) in_X0 tyX0_ok nmX0 rfl (by decide) q159 rfl rfl rfl (by first | decide | simp) ?_
    refine j_fkF (F' := va_up (va_up F 5 (F 5 + (n - k))) 5 (F 5 + (n - k) + 1)) (by decide) fo5 rfl ?_
    refine j_iinc dX0_feed_66 rfl (by decide) rfl ?_
    refine j_goto (tgt := 33) dX0_feed_69 (by decide) ?_
    refine j_re (h' := fkS r dT g (va_up F 5 (F 5 + (n - (k - 1)))) (va_up V 5 (upd f (F 5 + (n - k)) (fbyte b (k - 1))))) (by rw [i32_dec, show nI k - 1 = nI (k - 1) from pk_sub (b := 1) hz]; rfl) rfl ?_ (ih (k - 1) (upd f (F 5 + (n - k)) (fbyte b (k - 1))) ⟨by omega, fun j => ?_⟩ (by omega))
    · rw [bx_uu, bx_uu, show F 5 + (n - k) + 1 = F 5 + (n - (k - 1)) by omega]
      show fkS r dT g _ (va_up V 5 (upd f (F 5 + (n - k)) (vp_nar .byte ((b >>> ((8 * (nI k - 1)).toInt64 &&& 63)).toInt32.toInt8.toInt32)))) = _
      rw [pk_vb, show nI k - 1 = nI (k - 1) from pk_sub (b := 1) hz]
      rfl
    · by_cases hj : j = F 5 + (n - k)
      · subst hj
        rw [pk_us, if_pos (by omega), show n - 1 - (F 5 + (n - k) - F 5) = k - 1 by omega]
      · rw [pk_un hj, hf1 j]
        by_cases hj2 : F 5 ≤ j ∧ j < F 5 + (n - k)
        · rw [if_pos hj2, if_pos (by omega)]
        · rw [if_neg hj2, if_neg (by omega)]
