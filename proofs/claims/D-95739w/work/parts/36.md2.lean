set_option maxRecDepth 100000
set_option maxHeartbeats 4000000 in
theorem m_isNumber {l : Launch} {D : va_G} {dT : Nat → ClassId} {H0 : Heap} {r : Nat → Nat} {nx : Nat} {g : j_H} {kI : Int32} {bs fg m nk w x s t : Nat} {F : Nat → Nat} {tk : Int64} {V : Nat → Nat → Int32} (v : Int32) : MC (gG l D dT H0) yX3_isNumber cX3_isNumber 2 (some .boolean) 1 0 0 [.ref (r 100), .int v] r (mdS r dT g kI bs fg m nk w x s t F tk V) nx (jq_i (j_b (0 ≤ v ∧ v ≤ nI m - 1)) r (mdS r dT g kI bs fg m nk w x s t F tk V) nx) := by
  refine MC.ofJ [some (.ref (r 100)), some (.int v)] rfl (Nat.le_of_ble_eq_true rfl) (by decide) ?_
  refine j_iload_n dX3_isNumber_0 rfl ?_
  refine j_iconst (v := 0) dX3_isNumber_1 (by decide) ?_
  refine j_aload_n dX3_isNumber_2 rfl ?_
  refine j_get 3 dX3_isNumber_3 (by first | rfl | assumption) in_X3 rfl (by decide) q1102 rfl ?_
  refine j_iconst (v := 1) dX3_isNumber_6 (by decide) ?_
  refine j_isub dX3_isNumber_7 ?_
  refine j_callSi (c_X3_in _ _ _) dX3_isNumber_8 pmX3_in q1228 q1229 rfl ⟨Nat.le_of_ble_eq_true rfl, Nat.le_of_ble_eq_true rfl⟩ ⟨Nat.le_of_ble_eq_true rfl, Nat.le_of_ble_eq_true rfl⟩ rfl (Nat.le_of_ble_eq_true rfl) ?_
  refine j_iret dX3_isNumber_11 rfl (by unfold j_b; split <;> rfl) (Nat.le_refl _) (Nat.le_refl _) ?_
  exact ⟨rfl, rfl, rfl, rfl⟩
set_option maxHeartbeats 4000000 in
theorem m_fault {l : Launch} {D : va_G} {dT : Nat → ClassId} {H0 : Heap} {r : Nat → Nat} {nx : Nat} {g : j_H} {kI : Int32} {bs fg m nk w x s t : Nat} {F : Nat → Nat} {tk : Int64} {V : Nat → Nat → Int32}  : MC (gG l D dT H0) yX3_fault cX3_fault 1 (some .int) 0 0 0 [.ref (r 100)] r (mdS r dT g kI bs fg m nk w x s t F tk V) nx (jq_i (nI (F 13) - 1) r (mdS r dT g kI bs fg m nk w x s t F tk V) nx) := by
  refine MC.ofJ [some (.ref (r 100))] rfl (Nat.le_of_ble_eq_true rfl) (by decide) ?_
  refine j_aload_n dX3_fault_0 rfl ?_
  refine j_get 13 dX3_fault_1 (by first | rfl | assumption) in_X3 rfl (by decide) q1112 rfl ?_
  refine j_iret dX3_fault_4 rfl rfl (Nat.le_refl _) (Nat.le_refl _) ?_
  exact ⟨rfl, rfl, rfl, rfl⟩
set_option maxHeartbeats 4000000 in
theorem m_forget {l : Launch} {D : va_G} {dT : Nat → ClassId} {H0 : Heap} {r : Nat → Nat} {nx : Nat} {g : j_H} {kI : Int32} {bs fg m nk w x s t : Nat} {F : Nat → Nat} {tk : Int64} {V : Nat → Nat → Int32}  : MC (gG l D dT H0) yX3_forget cX3_forget 2 (some .int) 0 0 0 [.ref (r 100)] r (mdS r dT g kI bs fg m nk w x s t F tk V) nx (jq_i (nI (F 27)) r (mdS r dT g kI bs fg m nk w x s t (va_up F 27 0) tk V) nx) := by
  refine MC.ofJ [some (.ref (r 100)), none] rfl (Nat.le_of_ble_eq_true rfl) (by decide) ?_
  refine j_aload_n dX3_forget_0 rfl ?_
  refine j_get 27 dX3_forget_1 (by first | rfl | assumption) in_X3 rfl (by decide) q1126 rfl ?_
  refine j_istore_n dX3_forget_4 (by decide) rfl ?_
  refine j_aload_n dX3_forget_5 rfl ?_
  refine j_iconst (v := 0) dX3_forget_6 (by decide) ?_
  refine j_put 27 dX3_forget_7 (by first | rfl | assumption) in_X3 tyX3_ok nmX3 rfl (by decide) q1126 rfl rfl rfl (by first | decide | simp) ?_
  refine j_mdF (q := 27) (v := 0) (by decide) rfl ?_
  refine j_iload_n dX3_forget_10 rfl ?_
  refine j_iret dX3_forget_11 rfl rfl (Nat.le_refl _) (Nat.le_refl _) ?_
  exact ⟨rfl, rfl, rfl, rfl⟩
set_option maxHeartbeats 4000000 in
theorem m_tear {l : Launch} {D : va_G} {dT : Nat → ClassId} {H0 : Heap} {r : Nat → Nat} {nx : Nat} {g : j_H} {kI : Int32} {bs fg m nk w x s t : Nat} {F : Nat → Nat} {tk : Int64} {V : Nat → Nat → Int32}  : MC (gG l D dT H0) yX3_tear cX3_tear 2 (some .int) 0 0 0 [.ref (r 100)] r (mdS r dT g kI bs fg m nk w x s t F tk V) nx (jq_i (nI (F 29)) r (mdS r dT g kI bs fg m nk w x s t (va_up F 29 0) tk V) nx) := by
  refine MC.ofJ [some (.ref (r 100)), none] rfl (Nat.le_of_ble_eq_true rfl) (by decide) ?_
  refine j_aload_n dX3_tear_0 rfl ?_
  refine j_get 29 dX3_tear_1 (by first | rfl | assumption) in_X3 rfl (by decide) q1128 rfl ?_
  refine j_istore_n dX3_tear_4 (by decide) rfl ?_
  refine j_aload_n dX3_tear_5 rfl ?_
  refine j_iconst (v := 0) dX3_tear_6 (by decide) ?_
  refine j_put 29 dX3_tear_7 (by first | rfl | assumption) in_X3 tyX3_ok nmX3 rfl (by decide) q1128 rfl rfl rfl (by first | decide | simp) ?_
  refine j_mdF (q := 29) (v := 0) (by decide) rfl ?_
  refine j_iload_n dX3_tear_10 rfl ?_
  refine j_iret dX3_tear_11 rfl rfl (Nat.le_refl _) (Nat.le_refl _) ?_
  exact ⟨rfl, rfl, rfl, rfl⟩
set_option maxHeartbeats 4000000 in
theorem m_begin {l : Launch} {D : va_G} {dT : Nat → ClassId} {H0 : Heap} {r : Nat → Nat} {nx : Nat} {g : j_H} {kI : Int32} {bs fg m nk w x s t : Nat} {F : Nat → Nat} {tk : Int64} {V : Nat → Nat → Int32}  : MC (gG l D dT H0) yX3_begin cX3_begin 2 (some .int) 1 0 0 [.ref (r 100)] r (mdS r dT g kI bs fg m nk w x s t F tk V) nx (jq_i (nI s) r (mdS r dT g kI bs fg m nk 0 0 0 0 F tk V) nx) := by
  refine MC.ofJ [some (.ref (r 100)), none] rfl (Nat.le_of_ble_eq_true rfl) (by decide) ?_
  refine j_aload_n dX3_begin_0 rfl ?_
  refine j_get 21 dX3_begin_1 (by first | rfl | assumption) in_X3 rfl (by decide) q1120 rfl ?_
  refine j_istore_n dX3_begin_4 (by decide) rfl ?_
  refine j_aload_n dX3_begin_5 rfl ?_
  refine j_callVv m_start dX3_begin_6 pmX3_start q1291 q1293 qs36 (by first | rfl | assumption) rfl rfl rfl ⟨Nat.le_of_ble_eq_true rfl, Nat.le_of_ble_eq_true rfl⟩ ⟨Nat.le_of_ble_eq_true rfl, Nat.le_of_ble_eq_true rfl⟩ rfl (Nat.le_of_ble_eq_true rfl) ?_
  refine j_iload_n dX3_begin_9 rfl ?_
  refine j_iret dX3_begin_10 rfl rfl (Nat.le_refl _) (Nat.le_refl _) ?_
  exact ⟨rfl, rfl, rfl, rfl⟩
set_option maxHeartbeats 4000000 in
theorem m_targetAt1 {l : Launch} {D : va_G} {dT : Nat → ClassId} {H0 : Heap} {r : Nat → Nat} {nx : Nat} {g : j_H} {kI : Int32} {bs fg m nk w x s t : Nat} {F : Nat → Nat} {tk : Int64} {V : Nat → Nat → Int32} (i : Nat) (hi : i < F 27) (h6 : F 27 ≤ 6) : MC (gG l D dT H0) yX3_targetAt cX3_targetAt 2 (some .int) 1 0 0 [.ref (r 100), .int (nI i)] r (mdS r dT g kI bs fg m nk w x s t F tk V) nx (jq_i (V 104 i) r (mdS r dT g kI bs fg m nk w x s t F tk V) nx) := by
  refine MC.ofJ [some (.ref (r 100)), some (.int (nI i))] rfl (Nat.le_of_ble_eq_true rfl) (by decide) ?_
  refine j_iload_n dX3_targetAt_0 rfl ?_
  refine j_iconst (v := 0) dX3_targetAt_1 (by decide) ?_
  refine j_aload_n dX3_targetAt_2 rfl ?_
  refine j_get 27 dX3_targetAt_3 (by first | rfl | assumption) in_X3 rfl (by decide) q1126 rfl ?_
  refine j_iconst (v := 1) dX3_targetAt_6 (by decide) ?_
  refine j_isub dX3_targetAt_7 ?_
  refine j_callSi (c_X3_in _ _ _) dX3_targetAt_8 pmX3_in q1228 q1229 rfl ⟨Nat.le_of_ble_eq_true rfl, Nat.le_of_ble_eq_true rfl⟩ ⟨Nat.le_of_ble_eq_true rfl, Nat.le_of_ble_eq_true rfl⟩ rfl (Nat.le_of_ble_eq_true rfl) ?_
  refine j_ifb_eq (tgt := 23) dX3_targetAt_11 (by decide) (fun c11 => absurd (nI_inr hi (by omega)) c11) (fun c11 => ?_)
  refine j_aload_n dX3_targetAt_14 rfl ?_
  refine j_get 28 dX3_targetAt_15 (by first | rfl | assumption) in_X3 rfl (by decide) q1127 rfl ?_
  refine j_iload_n dX3_targetAt_18 rfl ?_
  refine j_iald 0 i dX3_targetAt_19 (by first | rfl | assumption) rfl rfl (by show i < 6; omega) (by decide) ?_
  refine j_goto (tgt := 25) dX3_targetAt_20 (by decide) ?_
  refine j_iret dX3_targetAt_25 rfl rfl (Nat.le_refl _) (Nat.le_refl _) ?_
  exact ⟨rfl, rfl, rfl, rfl⟩
set_option maxHeartbeats 4000000 in
theorem m_targetAt0 {l : Launch} {D : va_G} {dT : Nat → ClassId} {H0 : Heap} {r : Nat → Nat} {nx : Nat} {g : j_H} {kI : Int32} {bs fg m nk w x s t : Nat} {F : Nat → Nat} {tk : Int64} {V : Nat → Nat → Int32} (v : Int32) (hv : ¬ (0 ≤ v ∧ v ≤ nI (F 27) - 1)) : MC (gG l D dT H0) yX3_targetAt cX3_targetAt 2 (some .int) 1 0 0 [.ref (r 100), .int v] r (mdS r dT g kI bs fg m nk w x s t F tk V) nx (jq_i (-1000000001) r (mdS r dT g kI bs fg m nk w x s t F tk V) nx) := by
  refine MC.ofJ [some (.ref (r 100)), some (.int v)] rfl (Nat.le_of_ble_eq_true rfl) (by decide) ?_
  refine j_iload_n dX3_targetAt_0 rfl ?_
  refine j_iconst (v := 0) dX3_targetAt_1 (by decide) ?_
  refine j_aload_n dX3_targetAt_2 rfl ?_
  refine j_get 27 dX3_targetAt_3 (by first | rfl | assumption) in_X3 rfl (by decide) q1126 rfl ?_
  refine j_iconst (v := 1) dX3_targetAt_6 (by decide) ?_
  refine j_isub dX3_targetAt_7 ?_
  refine j_callSi (c_X3_in _ _ _) dX3_targetAt_8 pmX3_in q1228 q1229 rfl ⟨Nat.le_of_ble_eq_true rfl, Nat.le_of_ble_eq_true rfl⟩ ⟨Nat.le_of_ble_eq_true rfl, Nat.le_of_ble_eq_true rfl⟩ rfl (Nat.le_of_ble_eq_true rfl) ?_
  refine j_ifb_eq (tgt := 23) dX3_targetAt_11 (by decide) (fun c11 => ?_) (fun c11 => absurd c11 hv)
  refine j_ldc dX3_targetAt_23 q1307 ?_
  refine j_iret dX3_targetAt_25 rfl rfl (Nat.le_refl _) (Nat.le_refl _) ?_
  exact ⟨rfl, rfl, rfl, rfl⟩
set_option maxHeartbeats 4000000 in
theorem m_targeto {l : Launch} {D : va_G} {dT : Nat → ClassId} {H0 : Heap} {r : Nat → Nat} {nx : Nat} {g : j_H} {kI : Int32} {bs fg m nk w x s t : Nat} {F : Nat → Nat} {tk : Int64} {V : Nat → Nat → Int32} (v : Int32) (hv : ¬ (0 ≤ v ∧ v ≤ nI m - 1)) : MC (gG l D dT H0) yX3_target cX3_target 2 (some .int) 2 0 0 [.ref (r 100), .int v] r (mdS r dT g kI bs fg m nk w x s t F tk V) nx (jq_i (-1000000002) r (mdS r dT g kI bs fg m nk w x s t F tk V) nx) := by
  refine MC.ofJ [some (.ref (r 100)), some (.int v)] rfl (Nat.le_of_ble_eq_true rfl) (by decide) ?_
  refine j_aload_n dX3_target_0 rfl ?_
  refine j_iload_n dX3_target_1 rfl ?_
  refine j_callVi (m_isNumber _) dX3_target_2 pmX3_isNumber q1336 q1338 qs41 (by first | rfl | assumption) rfl rfl rfl ⟨Nat.le_of_ble_eq_true rfl, Nat.le_of_ble_eq_true rfl⟩ ⟨Nat.le_of_ble_eq_true rfl, Nat.le_of_ble_eq_true rfl⟩ rfl (Nat.le_of_ble_eq_true rfl) ?_
  refine j_ifb_ne (tgt := 11) dX3_target_5 (by decide) (fun c5 => absurd c5 hv) (fun c5 => ?_)
  refine j_ldc dX3_target_8 q1231 ?_
  refine j_iret dX3_target_10 rfl rfl (Nat.le_refl _) (Nat.le_refl _) ?_
  exact ⟨rfl, rfl, rfl, rfl⟩
set_option maxHeartbeats 4000000 in
theorem m_targetf {l : Launch} {D : va_G} {dT : Nat → ClassId} {H0 : Heap} {r : Nat → Nat} {nx : Nat} {g : j_H} {kI : Int32} {bs fg m nk w x s t : Nat} {F : Nat → Nat} {tk : Int64} {V : Nat → Nat → Int32} (v : Int32) (hv : 0 ≤ v ∧ v ≤ nI m - 1) (hf : F 27 = 6) : MC (gG l D dT H0) yX3_target cX3_target 2 (some .int) 2 0 0 [.ref (r 100), .int v] r (mdS r dT g kI bs fg m nk w x s t F tk V) nx (jq_i (-1000000004) r (mdS r dT g kI bs fg m nk w x s t F tk V) nx) := by
  refine MC.ofJ [some (.ref (r 100)), some (.int v)] rfl (Nat.le_of_ble_eq_true rfl) (by decide) ?_
  refine j_aload_n dX3_target_0 rfl ?_
  refine j_iload_n dX3_target_1 rfl ?_
  refine j_callVi (m_isNumber _) dX3_target_2 pmX3_isNumber q1336 q1338 qs41 (by first | rfl | assumption) rfl rfl rfl ⟨Nat.le_of_ble_eq_true rfl, Nat.le_of_ble_eq_true rfl⟩ ⟨Nat.le_of_ble_eq_true rfl, Nat.le_of_ble_eq_true rfl⟩ rfl (Nat.le_of_ble_eq_true rfl) ?_
  refine j_ifb_ne (tgt := 11) dX3_target_5 (by decide) (fun c5 => ?_) (fun c5 => absurd hv c5)
  refine j_aload_n dX3_target_11 rfl ?_
  refine j_get 27 dX3_target_12 (by first | rfl | assumption) in_X3 rfl (by decide) q1126 rfl ?_
  refine j_bipush (v := 6) dX3_target_15 (by decide) ?_
  refine j_icmp_ne (tgt := 23) dX3_target_17 (by decide) (fun c17 => absurd (by rw [hf]; rfl) c17) (fun c17 => ?_)
  refine j_ldc dX3_target_20 q1232 ?_
  refine j_iret dX3_target_22 rfl rfl (Nat.le_refl _) (Nat.le_refl _) ?_
  exact ⟨rfl, rfl, rfl, rfl⟩
set_option maxHeartbeats 4000000 in
theorem m_target1 {l : Launch} {D : va_G} {dT : Nat → ClassId} {H0 : Heap} {r : Nat → Nat} {nx : Nat} {g : j_H} {kI : Int32} {bs fg m nk w x s t : Nat} {F : Nat → Nat} {tk : Int64} {V : Nat → Nat → Int32} (v : Int32) (hv : 0 ≤ v ∧ v ≤ nI m - 1) (hf : F 27 < 6) : MC (gG l D dT H0) yX3_target cX3_target 2 (some .int) 2 0 0 [.ref (r 100), .int v] r (mdS r dT g kI bs fg m nk w x s t F tk V) nx (jq_i (nI (F 27 + 1)) r (mdS r dT g kI bs fg m nk w x s t (va_up F 27 (F 27 + 1)) tk (vo V [(104, upd (V 104) (F 27) v)])) nx) := by
  refine MC.ofJ [some (.ref (r 100)), some (.int v)] rfl (Nat.le_of_ble_eq_true rfl) (by decide) ?_
  show J _ _ _ _ _ _ _ _ (mdS r dT g kI bs fg m nk w x s t F tk (vo V [])) _ _ _ _
  refine j_aload_n dX3_target_0 rfl ?_
  refine j_iload_n dX3_target_1 rfl ?_
  refine j_callVi (m_isNumber _) dX3_target_2 pmX3_isNumber q1336 q1338 qs41 (by first | rfl | assumption) rfl rfl rfl ⟨Nat.le_of_ble_eq_true rfl, Nat.le_of_ble_eq_true rfl⟩ ⟨Nat.le_of_ble_eq_true rfl, Nat.le_of_ble_eq_true rfl⟩ rfl (Nat.le_of_ble_eq_true rfl) ?_
  refine j_ifb_ne (tgt := 11) dX3_target_5 (by decide) (fun c5 => ?_) (fun c5 => absurd hv c5)
  refine j_aload_n dX3_target_11 rfl ?_
  refine j_get 27 dX3_target_12 (by first | rfl | assumption) in_X3 rfl (by decide) q1126 rfl ?_
  refine j_bipush (v := 6) dX3_target_15 (by decide) ?_
  refine j_icmp_ne (tgt := 23) dX3_target_17 (by decide) (fun c17 => ?_) (fun c17 => absurd c17 (fun q => by have := (nI_eq (by omega) (by decide)).mp (show nI (F 27) = nI 6 from q); omega))
  refine j_aload_n dX3_target_23 rfl ?_
  refine j_get 28 dX3_target_24 (by first | rfl | assumption) in_X3 rfl (by decide) q1127 rfl ?_
  refine j_aload_n dX3_target_27 rfl ?_
  refine j_get 27 dX3_target_28 (by first | rfl | assumption) in_X3 rfl (by decide) q1126 rfl ?_
  refine j_iload_n dX3_target_31 rfl ?_
  refine j_iast 0 (F 27) dX3_target_32 (by first | rfl | assumption) rfl rfl (by show F 27 < 6; omega) (by decide) ?_
  refine j_mdW (f := _) (by decide) (by decide) rfl ?_
  refine j_aload_n dX3_target_33 rfl ?_
  refine j_dup dX3_target_34 rfl ?_
  refine j_get 27 dX3_target_35 (by first | rfl | assumption) in_X3 rfl (by decide) q1126 rfl ?_
  refine j_iconst (v := 1) dX3_target_38 (by decide) ?_
  refine j_iadd dX3_target_39 ?_
  refine j_eqi (nI_1 _) ?_
  refine j_put 27 dX3_target_40 (by first | rfl | assumption) in_X3 tyX3_ok nmX3 rfl (by decide) q1126 rfl rfl rfl (by first | decide | simp) ?_
  refine j_mdF (q := 27) (v := (F 27 + 1)) (by decide) rfl ?_
  refine j_aload_n dX3_target_43 rfl ?_
  refine j_get 27 dX3_target_44 (by first | rfl | assumption) in_X3 rfl (by decide) q1126 rfl ?_
  refine j_iret dX3_target_47 rfl rfl (Nat.le_refl _) (Nat.le_refl _) ?_
  exact ⟨rfl, rfl, rfl, rfl⟩
set_option maxHeartbeats 4000000 in
theorem m_write0 {l : Launch} {D : va_G} {dT : Nat → ClassId} {H0 : Heap} {r : Nat → Nat} {nx : Nat} {g : j_H} {kI : Int32} {bs fg m nk w x s t : Nat} {F : Nat → Nat} {tk : Int64} {V : Nat → Nat → Int32} (k v : Int32) (hk : ¬ (0 ≤ k ∧ k ≤ nI nk - 1)) : MC (gG l D dT H0) yX3_write cX3_write 3 (some .int) 2 0 0 [.ref (r 100), .int k, .int v] r (mdS r dT g kI bs fg m nk w x s t F tk V) nx (jq_i (-1000000001) r (mdS r dT g kI bs fg m nk w x s t F tk V) nx) := by
  refine MC.ofJ [some (.ref (r 100)), some (.int k), some (.int v)] rfl (Nat.le_of_ble_eq_true rfl) (by decide) ?_
  refine j_iload_n dX3_write_0 rfl ?_
  refine j_iconst (v := 0) dX3_write_1 (by decide) ?_
  refine j_aload_n dX3_write_2 rfl ?_
  refine j_get 4 dX3_write_3 (by first | rfl | assumption) in_X3 rfl (by decide) q1103 rfl ?_
  refine j_iconst (v := 1) dX3_write_6 (by decide) ?_
  refine j_isub dX3_write_7 ?_
  refine j_callSi (c_X3_in _ _ _) dX3_write_8 pmX3_in q1228 q1229 rfl ⟨Nat.le_of_ble_eq_true rfl, Nat.le_of_ble_eq_true rfl⟩ ⟨Nat.le_of_ble_eq_true rfl, Nat.le_of_ble_eq_true rfl⟩ rfl (Nat.le_of_ble_eq_true rfl) ?_
  refine j_ifb_ne (tgt := 17) dX3_write_11 (by decide) (fun c11 => absurd c11 hk) (fun c11 => ?_)
  refine j_ldc dX3_write_14 q1307 ?_
  refine j_iret dX3_write_16 rfl rfl (Nat.le_refl _) (Nat.le_refl _) ?_
  exact ⟨rfl, rfl, rfl, rfl⟩
set_option maxHeartbeats 4000000 in
theorem m_writeo {l : Launch} {D : va_G} {dT : Nat → ClassId} {H0 : Heap} {r : Nat → Nat} {nx : Nat} {g : j_H} {kI : Int32} {bs fg m nk w x s t : Nat} {F : Nat → Nat} {tk : Int64} {V : Nat → Nat → Int32} (k v : Int32) (hk : 0 ≤ k ∧ k ≤ nI nk - 1) (hv : ¬ (0 ≤ v ∧ v ≤ nI m - 1)) : MC (gG l D dT H0) yX3_write cX3_write 3 (some .int) 2 0 0 [.ref (r 100), .int k, .int v] r (mdS r dT g kI bs fg m nk w x s t F tk V) nx (jq_i (-1000000002) r (mdS r dT g kI bs fg m nk w x s t F tk V) nx) := by
  refine MC.ofJ [some (.ref (r 100)), some (.int k), some (.int v)] rfl (Nat.le_of_ble_eq_true rfl) (by decide) ?_
  refine j_iload_n dX3_write_0 rfl ?_
  refine j_iconst (v := 0) dX3_write_1 (by decide) ?_
  refine j_aload_n dX3_write_2 rfl ?_
  refine j_get 4 dX3_write_3 (by first | rfl | assumption) in_X3 rfl (by decide) q1103 rfl ?_
  refine j_iconst (v := 1) dX3_write_6 (by decide) ?_
  refine j_isub dX3_write_7 ?_
  refine j_callSi (c_X3_in _ _ _) dX3_write_8 pmX3_in q1228 q1229 rfl ⟨Nat.le_of_ble_eq_true rfl, Nat.le_of_ble_eq_true rfl⟩ ⟨Nat.le_of_ble_eq_true rfl, Nat.le_of_ble_eq_true rfl⟩ rfl (Nat.le_of_ble_eq_true rfl) ?_
  refine j_ifb_ne (tgt := 17) dX3_write_11 (by decide) (fun c11 => ?_) (fun c11 => absurd hk c11)
  refine j_aload_n dX3_write_17 rfl ?_
  refine j_iload_n dX3_write_18 rfl ?_
  refine j_callVi (m_isNumber _) dX3_write_19 pmX3_isNumber q1336 q1338 qs41 (by first | rfl | assumption) rfl rfl rfl ⟨Nat.le_of_ble_eq_true rfl, Nat.le_of_ble_eq_true rfl⟩ ⟨Nat.le_of_ble_eq_true rfl, Nat.le_of_ble_eq_true rfl⟩ rfl (Nat.le_of_ble_eq_true rfl) ?_
  refine j_ifb_ne (tgt := 28) dX3_write_22 (by decide) (fun c22 => absurd c22 hv) (fun c22 => ?_)
  refine j_ldc dX3_write_25 q1231 ?_
  refine j_iret dX3_write_27 rfl rfl (Nat.le_refl _) (Nat.le_refl _) ?_
  exact ⟨rfl, rfl, rfl, rfl⟩
set_option maxHeartbeats 4000000 in
theorem m_writef {l : Launch} {D : va_G} {dT : Nat → ClassId} {H0 : Heap} {r : Nat → Nat} {nx : Nat} {g : j_H} {kI : Int32} {bs fg m nk w x s t : Nat} {F : Nat → Nat} {tk : Int64} {V : Nat → Nat → Int32} (k v : Int32) (hk : 0 ≤ k ∧ k ≤ nI nk - 1) (hv : 0 ≤ v ∧ v ≤ nI m - 1) (hf : F 29 = 40) : MC (gG l D dT H0) yX3_write cX3_write 3 (some .int) 2 0 0 [.ref (r 100), .int k, .int v] r (mdS r dT g kI bs fg m nk w x s t F tk V) nx (jq_i (-1000000004) r (mdS r dT g kI bs fg m nk w x s t F tk V) nx) := by
  refine MC.ofJ [some (.ref (r 100)), some (.int k), some (.int v)] rfl (Nat.le_of_ble_eq_true rfl) (by decide) ?_
  refine j_iload_n dX3_write_0 rfl ?_
  refine j_iconst (v := 0) dX3_write_1 (by decide) ?_
  refine j_aload_n dX3_write_2 rfl ?_
  refine j_get 4 dX3_write_3 (by first | rfl | assumption) in_X3 rfl (by decide) q1103 rfl ?_
  refine j_iconst (v := 1) dX3_write_6 (by decide) ?_
  refine j_isub dX3_write_7 ?_
  refine j_callSi (c_X3_in _ _ _) dX3_write_8 pmX3_in q1228 q1229 rfl ⟨Nat.le_of_ble_eq_true rfl, Nat.le_of_ble_eq_true rfl⟩ ⟨Nat.le_of_ble_eq_true rfl, Nat.le_of_ble_eq_true rfl⟩ rfl (Nat.le_of_ble_eq_true rfl) ?_
  refine j_ifb_ne (tgt := 17) dX3_write_11 (by decide) (fun c11 => ?_) (fun c11 => absurd hk c11)
  refine j_aload_n dX3_write_17 rfl ?_
  refine j_iload_n dX3_write_18 rfl ?_
  refine j_callVi (m_isNumber _) dX3_write_19 pmX3_isNumber q1336 q1338 qs41 (by first | rfl | assumption) rfl rfl rfl ⟨Nat.le_of_ble_eq_true rfl, Nat.le_of_ble_eq_true rfl⟩ ⟨Nat.le_of_ble_eq_true rfl, Nat.le_of_ble_eq_true rfl⟩ rfl (Nat.le_of_ble_eq_true rfl) ?_
  refine j_ifb_ne (tgt := 28) dX3_write_22 (by decide) (fun c22 => ?_) (fun c22 => absurd hv c22)
  refine j_aload_n dX3_write_28 rfl ?_
  refine j_get 29 dX3_write_29 (by first | rfl | assumption) in_X3 rfl (by decide) q1128 rfl ?_
  refine j_bipush (v := 40) dX3_write_32 (by decide) ?_
  refine j_icmp_ne (tgt := 40) dX3_write_34 (by decide) (fun c34 => absurd (by rw [hf]; rfl) c34) (fun c34 => ?_)
  refine j_ldc dX3_write_37 q1232 ?_
  refine j_iret dX3_write_39 rfl rfl (Nat.le_refl _) (Nat.le_refl _) ?_
  exact ⟨rfl, rfl, rfl, rfl⟩
set_option maxHeartbeats 4000000 in
theorem m_seed0 {l : Launch} {D : va_G} {dT : Nat → ClassId} {H0 : Heap} {r : Nat → Nat} {nx : Nat} {g : j_H} {kI : Int32} {bs fg m nk w x s t : Nat} {F : Nat → Nat} {tk : Int64} {V : Nat → Nat → Int32} (v : Int32) (hv : ¬ 0 ≤ v) : MC (gG l D dT H0) yX3_seed cX3_seed 3 (some .int) 0 0 0 [.ref (r 100), .int v] r (mdS r dT g kI bs fg m nk w x s t F tk V) nx (jq_i (-1000000002) r (mdS r dT g kI bs fg m nk w x s t F tk V) nx) := by
  refine MC.ofJ [some (.ref (r 100)), some (.int v), none] rfl (Nat.le_of_ble_eq_true rfl) (by decide) ?_
  refine j_iload_n dX3_seed_0 rfl ?_
  refine j_if_ge (tgt := 7) dX3_seed_1 (by decide) (fun c1 => absurd c1 hv) (fun c1 => ?_)
  refine j_ldc dX3_seed_4 q1231 ?_
  refine j_iret dX3_seed_6 rfl rfl (Nat.le_refl _) (Nat.le_refl _) ?_
  exact ⟨rfl, rfl, rfl, rfl⟩
set_option maxHeartbeats 4000000 in
theorem m_write1 {l : Launch} {D : va_G} {dT : Nat → ClassId} {H0 : Heap} {r : Nat → Nat} {nx : Nat} {g : j_H} {kI : Int32} {bs fg m nk w x s t : Nat} {F : Nat → Nat} {tk : Int64} {V : Nat → Nat → Int32} (k v : Int32) (hk : 0 ≤ k ∧ k ≤ nI nk - 1) (hv : 0 ≤ v ∧ v ≤ nI m - 1) (hf : F 29 < 40) : MC (gG l D dT H0) yX3_write cX3_write 3 (some .int) 2 0 0 [.ref (r 100), .int k, .int v] r (mdS r dT g kI bs fg m nk w x s t F tk V) nx (jq_i (nI (F 29 + 1)) r (mdS r dT g kI bs fg m nk w x s t (va_up F 29 (F 29 + 1)) tk (vo V [(105, upd (upd (V 105) (2 * F 29) k) (2 * F 29 + 1) v)])) nx) := by
  refine MC.ofJ [some (.ref (r 100)), some (.int k), some (.int v)] rfl (Nat.le_of_ble_eq_true rfl) (by decide) ?_
  show J _ _ _ _ _ _ _ _ (mdS r dT g kI bs fg m nk w x s t F tk (vo V [])) _ _ _ _
  refine j_iload_n dX3_write_0 rfl ?_
  refine j_iconst (v := 0) dX3_write_1 (by decide) ?_
  refine j_aload_n dX3_write_2 rfl ?_
  refine j_get 4 dX3_write_3 (by first | rfl | assumption) in_X3 rfl (by decide) q1103 rfl ?_
  refine j_iconst (v := 1) dX3_write_6 (by decide) ?_
  refine j_isub dX3_write_7 ?_
  refine j_callSi (c_X3_in _ _ _) dX3_write_8 pmX3_in q1228 q1229 rfl ⟨Nat.le_of_ble_eq_true rfl, Nat.le_of_ble_eq_true rfl⟩ ⟨Nat.le_of_ble_eq_true rfl, Nat.le_of_ble_eq_true rfl⟩ rfl (Nat.le_of_ble_eq_true rfl) ?_
  refine j_ifb_ne (tgt := 17) dX3_write_11 (by decide) (fun c11 => ?_) (fun c11 => absurd hk c11)
  refine j_aload_n dX3_write_17 rfl ?_
  refine j_iload_n dX3_write_18 rfl ?_
  refine j_callVi (m_isNumber _) dX3_write_19 pmX3_isNumber q1336 q1338 qs41 (by first | rfl | assumption) rfl rfl rfl ⟨Nat.le_of_ble_eq_true rfl, Nat.le_of_ble_eq_true rfl⟩ ⟨Nat.le_of_ble_eq_true rfl, Nat.le_of_ble_eq_true rfl⟩ rfl (Nat.le_of_ble_eq_true rfl) ?_
  refine j_ifb_ne (tgt := 28) dX3_write_22 (by decide) (fun c22 => ?_) (fun c22 => absurd hv c22)
  refine j_aload_n dX3_write_28 rfl ?_
  refine j_get 29 dX3_write_29 (by first | rfl | assumption) in_X3 rfl (by decide) q1128 rfl ?_
  refine j_bipush (v := 40) dX3_write_32 (by decide) ?_
  refine j_icmp_ne (tgt := 40) dX3_write_34 (by decide) (fun c34 => ?_) (fun c34 => absurd c34 (fun q => by have := (nI_eq (by omega) (by decide)).mp (show nI (F 29) = nI 40 from q); omega))
  refine j_aload_n dX3_write_40 rfl ?_
  refine j_get 30 dX3_write_41 (by first | rfl | assumption) in_X3 rfl (by decide) q1129 rfl ?_
  refine j_iconst (v := 2) dX3_write_44 (by decide) ?_
  refine j_aload_n dX3_write_45 rfl ?_
  refine j_get 29 dX3_write_46 (by first | rfl | assumption) in_X3 rfl (by decide) q1128 rfl ?_
  refine j_imul dX3_write_49 ?_
  refine j_iload_n dX3_write_50 rfl ?_
  refine j_iast 0 (2 * F 29) dX3_write_51 (by first | rfl | assumption) rfl (by rw [show (2 : Int32) = nI 2 from rfl, pk_mul]) (by show _ < 80; omega) (by decide) ?_
  refine j_mdW (f := _) (by decide) (by decide) rfl ?_
  refine j_aload_n dX3_write_52 rfl ?_
  refine j_get 30 dX3_write_53 (by first | rfl | assumption) in_X3 rfl (by decide) q1129 rfl ?_
  refine j_iconst (v := 2) dX3_write_56 (by decide) ?_
  refine j_aload_n dX3_write_57 rfl ?_
  refine j_get 29 dX3_write_58 (by first | rfl | assumption) in_X3 rfl (by decide) q1128 rfl ?_
  refine j_imul dX3_write_61 ?_
  refine j_iconst (v := 1) dX3_write_62 (by decide) ?_
  refine j_iadd dX3_write_63 ?_
  refine j_iload_n dX3_write_64 rfl ?_
  refine j_iast 0 (2 * F 29 + 1) dX3_write_65 (by first | rfl | assumption) rfl (by rw [show (2 : Int32) = nI 2 from rfl, pk_mul, nI_1]) (by show _ < 80; omega) (by decide) ?_
  refine j_mdW (f := _) (by decide) (by decide) rfl ?_
  refine j_aload_n dX3_write_66 rfl ?_
  refine j_dup dX3_write_67 rfl ?_
  refine j_get 29 dX3_write_68 (by first | rfl | assumption) in_X3 rfl (by decide) q1128 rfl ?_
  refine j_iconst (v := 1) dX3_write_71 (by decide) ?_
  refine j_iadd dX3_write_72 ?_
  refine j_eqi (nI_1 _) ?_
  refine j_put 29 dX3_write_73 (by first | rfl | assumption) in_X3 tyX3_ok nmX3 rfl (by decide) q1128 rfl rfl rfl (by first | decide | simp) ?_
  refine j_mdF (q := 29) (v := (F 29 + 1)) (by decide) rfl ?_
  refine j_aload_n dX3_write_76 rfl ?_
  refine j_get 29 dX3_write_77 (by first | rfl | assumption) in_X3 rfl (by decide) q1128 rfl ?_
  refine j_iret dX3_write_80 rfl rfl (Nat.le_refl _) (Nat.le_refl _) ?_
  exact ⟨rfl, rfl, rfl, rfl⟩
set_option maxHeartbeats 4000000 in
theorem m_strike1 {l : Launch} {D : va_G} {dT : Nat → ClassId} {H0 : Heap} {r : Nat → Nat} {nx : Nat} {g : j_H} {kd bs fg m nk : Nat} {a : A4} {F : Nat → Nat} {tk : Int64} {V : Nat → Nat → Int32} (hD : okD kd bs m) (ha : okA m a) (k : Nat) (hk9 : k < 9) (q : KY) (hk : okK bs m q) (hq : mdQ (V 101) k q) (hkn : k < nk) (hn9 : nk ≤ 8) : MC (gG l D dT H0) yX3_strike cX3_strike 2 (some .int) 4 0 0 [.ref (r 100), .int (nI k)] r (mdS r dT g (nI kd) bs fg m nk a.1 a.2.1 a.2.2.1 a.2.2.2 F tk V) nx (jq_i (nI (stk kd bs m q a).2.2.1) r (mdS r dT g (nI kd) bs fg m nk (stk kd bs m q a).1 (stk kd bs m q a).2.1 (stk kd bs m q a).2.2.1 (stk kd bs m q a).2.2.2 (va_up F 25 (F 25 + q.2.1)) tk V) nx) := by
  refine MC.ofJ [some (.ref (r 100)), some (.int (nI k))] rfl (Nat.le_of_ble_eq_true rfl) (by decide) ?_
  refine j_iload_n dX3_strike_0 rfl ?_
  refine j_iconst (v := 0) dX3_strike_1 (by decide) ?_
  refine j_aload_n dX3_strike_2 rfl ?_
  refine j_get 4 dX3_strike_3 (by first | rfl | assumption) in_X3 rfl (by decide) q1103 rfl ?_
  refine j_iconst (v := 1) dX3_strike_6 (by decide) ?_
  refine j_isub dX3_strike_7 ?_
  refine j_callSi (c_X3_in _ _ _) dX3_strike_8 pmX3_in q1228 q1229 rfl ⟨Nat.le_of_ble_eq_true rfl, Nat.le_of_ble_eq_true rfl⟩ ⟨Nat.le_of_ble_eq_true rfl, Nat.le_of_ble_eq_true rfl⟩ rfl (Nat.le_of_ble_eq_true rfl) ?_
  refine j_ifb_ne (tgt := 17) dX3_strike_11 (by decide) (fun c11 => ?_) (fun c11 => absurd (nI_inr hkn (by omega)) c11)
  refine j_aload_n dX3_strike_17 rfl ?_
  refine j_iload_n dX3_strike_18 rfl ?_
  refine j_callVv (m_doStroke hD ha k hk9 q hk hq.w) dX3_strike_19 pmX3_doStroke q1312 q1314 qs37 (by first | rfl | assumption) rfl rfl rfl ⟨Nat.le_of_ble_eq_true rfl, Nat.le_of_ble_eq_true rfl⟩ ⟨Nat.le_of_ble_eq_true rfl, Nat.le_of_ble_eq_true rfl⟩ rfl (Nat.le_of_ble_eq_true rfl) ?_
  refine j_aload_n dX3_strike_22 rfl ?_
  refine j_dup dX3_strike_23 rfl ?_
  refine j_get 25 dX3_strike_24 (by first | rfl | assumption) in_X3 rfl (by decide) q1124 rfl ?_
  refine j_aload_n dX3_strike_27 rfl ?_
  refine j_get 5 dX3_strike_28 (by first | rfl | assumption) in_X3 rfl (by decide) q1104 rfl ?_
  refine j_iconst (v := 4) dX3_strike_31 (by decide) ?_
  refine j_iload_n dX3_strike_32 rfl ?_
  refine j_imul dX3_strike_33 ?_
  refine j_iconst (v := 1) dX3_strike_34 (by decide) ?_
  refine j_iadd dX3_strike_35 ?_
  refine j_iald 0 (4 * k + 1) dX3_strike_36 (by first | rfl | assumption) rfl (jx1 k) (by show _ < 36; omega) (by decide) ?_
  refine j_eqi (show _ = nI q.2.1 from hq.2.1) ?_
  refine j_iadd dX3_strike_37 ?_
  refine j_eqi (nI_add _ _) ?_
  refine j_put 25 dX3_strike_38 (by first | rfl | assumption) in_X3 tyX3_ok nmX3 rfl (by decide) q1124 rfl rfl rfl (by first | decide | simp) ?_
  refine j_mdF (q := 25) (v := (F 25 + q.2.1)) (by decide) rfl ?_
  refine j_aload_n dX3_strike_41 rfl ?_
  refine j_get 21 dX3_strike_42 (by first | rfl | assumption) in_X3 rfl (by decide) q1120 rfl ?_
  refine j_iret dX3_strike_45 rfl rfl (Nat.le_refl _) (Nat.le_refl _) ?_
  exact ⟨rfl, rfl, rfl, rfl⟩
set_option maxHeartbeats 4000000 in
theorem m_strike0 {l : Launch} {D : va_G} {dT : Nat → ClassId} {H0 : Heap} {r : Nat → Nat} {nx : Nat} {g : j_H} {kI : Int32} {bs fg m nk w x s t : Nat} {F : Nat → Nat} {tk : Int64} {V : Nat → Nat → Int32} (v : Int32) (hv : ¬ (0 ≤ v ∧ v ≤ nI nk - 1)) : MC (gG l D dT H0) yX3_strike cX3_strike 2 (some .int) 4 0 0 [.ref (r 100), .int v] r (mdS r dT g kI bs fg m nk w x s t F tk V) nx (jq_i (-1000000001) r (mdS r dT g kI bs fg m nk w x s t F tk V) nx) := by
  refine MC.ofJ [some (.ref (r 100)), some (.int v)] rfl (Nat.le_of_ble_eq_true rfl) (by decide) ?_
  refine j_iload_n dX3_strike_0 rfl ?_
  refine j_iconst (v := 0) dX3_strike_1 (by decide) ?_
  refine j_aload_n dX3_strike_2 rfl ?_
  refine j_get 4 dX3_strike_3 (by first | rfl | assumption) in_X3 rfl (by decide) q1103 rfl ?_
  refine j_iconst (v := 1) dX3_strike_6 (by decide) ?_
  refine j_isub dX3_strike_7 ?_
  refine j_callSi (c_X3_in _ _ _) dX3_strike_8 pmX3_in q1228 q1229 rfl ⟨Nat.le_of_ble_eq_true rfl, Nat.le_of_ble_eq_true rfl⟩ ⟨Nat.le_of_ble_eq_true rfl, Nat.le_of_ble_eq_true rfl⟩ rfl (Nat.le_of_ble_eq_true rfl) ?_
  refine j_ifb_ne (tgt := 17) dX3_strike_11 (by decide) (fun c11 => absurd c11 hv) (fun c11 => ?_)
  refine j_ldc dX3_strike_14 q1307 ?_
  refine j_iret dX3_strike_16 rfl rfl (Nat.le_refl _) (Nat.le_refl _) ?_
  exact ⟨rfl, rfl, rfl, rfl⟩
set_option maxHeartbeats 4000000 in
theorem m_behind {l : Launch} {D : va_G} {dT : Nat → ClassId} {H0 : Heap} {r : Nat → Nat} {nx : Nat} {g : j_H} {kd bs fg m nk : Nat} {a : A4} {F : Nat → Nat} {tk : Int64} {V : Nat → Nat → Int32} (hD : okD kd bs m) (k : Nat) (hk9 : k < 9) (q : KY) (hk : okK bs m q) (hq : mdQw (V 101) k q) (n : Nat) (hn : n < 8 * m * m) : MC (gG l D dT H0) yX3_behind cX3_behind 3 (some .int) 4 0 0 [.ref (r 100), .int (nI n), .int (nI k)] r (mdS r dT g (nI kd) bs fg m nk a.1 a.2.1 a.2.2.1 a.2.2.2 F tk V) nx (jq_i (nI (encM m (stk kd bs m q (decM m n)))) r (mdS r dT g (nI kd) bs fg m nk (stk kd bs m q (decM m n)).1 (stk kd bs m q (decM m n)).2.1 (stk kd bs m q (decM m n)).2.2.1 (stk kd bs m q (decM m n)).2.2.2 F tk V) nx) := by
  have hm := hD.pos
  have hm2 := hD.le
  have hm3 : 2 ≤ m := by have := hD.2.1; have := hD.2.2.2.1; omega
  have hkd := hD.1
  have hmm := mm_le hm2
  have hdo := decM_ok hm hn
  have hso : okA m (stk kd bs m q (decM m n)) := stk_ok hD hk hdo
  refine MC.ofJ [some (.ref (r 100)), some (.int (nI n)), some (.int (nI k))] rfl (Nat.le_of_ble_eq_true rfl) (by decide) ?_
  refine j_aload_n dX3_behind_0 rfl ?_
  refine j_iload_n dX3_behind_1 rfl ?_
  refine j_callVv (m_setState hm hm2 n (by omega)) dX3_behind_2 pmX3_setState q1360 q1362 qs47 (by first | rfl | assumption) rfl rfl rfl ⟨Nat.le_of_ble_eq_true rfl, Nat.le_of_ble_eq_true rfl⟩ ⟨Nat.le_of_ble_eq_true rfl, Nat.le_of_ble_eq_true rfl⟩ rfl (Nat.le_of_ble_eq_true rfl) ?_
  refine j_aload_n dX3_behind_5 rfl ?_
  refine j_iload_n dX3_behind_6 rfl ?_
  refine j_callVv (m_doStroke hD hdo k hk9 q hk hq) dX3_behind_7 pmX3_doStroke q1312 q1314 qs37 (by first | rfl | assumption) rfl rfl rfl ⟨Nat.le_of_ble_eq_true rfl, Nat.le_of_ble_eq_true rfl⟩ ⟨Nat.le_of_ble_eq_true rfl, Nat.le_of_ble_eq_true rfl⟩ rfl (Nat.le_of_ble_eq_true rfl) ?_
  refine j_aload_n dX3_behind_10 rfl ?_
  refine j_callVi (m_stateNow hso.2.2.2) dX3_behind_11 pmX3_stateNow q1344 q1346 qs43 (by first | rfl | assumption) rfl rfl rfl ⟨Nat.le_of_ble_eq_true rfl, Nat.le_of_ble_eq_true rfl⟩ ⟨Nat.le_of_ble_eq_true rfl, Nat.le_of_ble_eq_true rfl⟩ rfl (Nat.le_of_ble_eq_true rfl) ?_
  refine j_iret dX3_behind_14 rfl rfl (Nat.le_refl _) (Nat.le_refl _) ?_
  exact ⟨rfl, rfl, rfl, rfl⟩
