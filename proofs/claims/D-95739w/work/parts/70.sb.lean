set_option maxRecDepth 100000
/-- a builder's cell: its bytes at v, k letters -/
def sbC (v k : Nat) : va_E := .inr (7, [.ref v, .int 0, .int 0, .int (nI k)])
def byC (dT : Nat → ClassId) (n : Nat) (f : Nat → Int32) : va_E := .inl (dT 1, n, .inl f)
theorem sh_0 (x : Int32) : x >>> ((0 : Int32) &&& 31) = x := by
  rw [show ((0 : Int32) &&& 31) = 0 by decide]
  exact Int32.shiftRight_zero
theorem shl_0 (x : Int32) : x <<< ((0 : Int32) &&& 31) = x := by
  rw [show ((0 : Int32) &&& 31) = 0 by decide]
  exact Int32.shiftLeft_zero
set_option maxHeartbeats 4000000 in
theorem b_initA {l : Launch} {D : va_G} {dT : Nat → ClassId} {H0 : Heap} {r : Nat → Nat} {h : j_H} {nx : Nat} (h210 : h 210 = some (.inr (7, [.null, .int 0, .int 0, .int 0]))) (hrn : r 211 = nx) : MC (gG l D dT H0) yJ0_init cJ0_init 2 none 1 1 16 [.ref (r 210), .int 16] r h nx (jq_v r (j_set (j_set h 211 (byC dT 16 (fun _ => 0))) 210 (sbC (r 211) 0)) (nx + 1)) := by
  refine MC.ofJ [some (.ref (r 210)), some (.int 16)] rfl (Nat.le_of_ble_eq_true rfl) (by decide) ?_
  refine j_aload_n dJ0_init_0 rfl ?_
  refine j_objInit dJ0_init_1 q278 q94 q95 (Nat.le_of_ble_eq_true rfl) (Nat.le_of_ble_eq_true rfl) ?_
  refine j_gets dJ0_init_4 q279 (fun _ hs => hs.2.2.2.2.1) ?_
  refine j_if_eq (tgt := 25) dJ0_init_7 (by decide) (fun c7 => absurd c7 (by decide)) (fun c7 => ?_)
  refine j_aload_n dJ0_init_10 rfl ?_
  refine j_iload_n dJ0_init_11 rfl ?_
  refine j_newa (n := 16) (a0 := (16, .inl (fun _ => 0))) 211 1 hrn dJ0_init_12 q214 rfl rfl rfl (by decide) (fun _ => rfl) (by decide) (Nat.le_of_ble_eq_true rfl) (Nat.le_of_ble_eq_true rfl) ?_
  refine j_put 0 dJ0_init_14 (by rw [j_set_ne (by decide)]; exact h210) in_J1 tyJ1_ok nmJ1 rfl (by decide) q288 rfl rfl rfl (by first | decide | simp) ?_
  refine j_aload_n dJ0_init_17 rfl ?_
  refine j_iconst (v := 0) dJ0_init_18 (by decide) ?_
  refine j_put 1 dJ0_init_19 j_set_self in_J1 tyJ1_ok nmJ1 rfl (by decide) q289 rfl rfl rfl (by first | decide | simp) ?_
  refine j_re rfl rfl (h' := j_set (j_set h 211 (byC dT 16 (fun _ => 0))) 210 (sbC (r 211) 0)) j_set2 ?_
  refine j_goto (tgt := 38) dJ0_init_22 (by decide) ?_
  refine j_vret dJ0_init_38 rfl (Nat.le_of_ble_eq_true rfl) (Nat.le_of_ble_eq_true rfl) ?_
  exact jr_v rfl
set_option maxHeartbeats 4000000 in
theorem b_init {l : Launch} {D : va_G} {dT : Nat → ClassId} {H0 : Heap} {r : Nat → Nat} {h : j_H} {nx : Nat} (h210 : h 210 = some (.inr (7, [.null, .int 0, .int 0, .int 0]))) (hrn : r 211 = nx) : MC (gG l D dT H0) yJ1_init cJ1_init 1 none 2 1 16 [.ref (r 210)] r h nx (jq_v r (j_set (j_set h 211 (byC dT 16 (fun _ => 0))) 210 (sbC (r 211) 0)) (nx + 1)) := by
  refine MC.ofJ [some (.ref (r 210))] rfl (Nat.le_of_ble_eq_true rfl) (by decide) ?_
  refine j_aload_n dJ1_init_0 rfl ?_
  refine j_bipush (v := 16) dJ1_init_1 (by decide) ?_
  refine j_callIv (b_initA h210 hrn) dJ1_init_3 pmJ0_init q275 q276 rfl rfl ⟨Nat.le_of_ble_eq_true rfl, Nat.le_of_ble_eq_true rfl⟩ ⟨Nat.le_of_ble_eq_true rfl, Nat.le_of_ble_eq_true rfl⟩ rfl (Nat.le_of_ble_eq_true rfl) ?_
  refine j_vret dJ1_init_6 rfl (Nat.le_of_ble_eq_true rfl) (Nat.le_of_ble_eq_true rfl) ?_
  exact jr_v rfl
set_option maxHeartbeats 4000000 in
theorem b_latin {l : Launch} {D : va_G} {dT : Nat → ClassId} {H0 : Heap} {r : Nat → Nat} {h : j_H} {nx : Nat} {cp k : Nat} {f : Nat → Int32} : MC (gG l D dT H0) yJ0_isLatin1 cJ0_isLatin1 1 (some .boolean) 0 0 0 [.ref (r 210)] r (j_set (j_set h 211 (byC dT cp f)) 210 (sbC (r 211) k)) nx (jq_i 1 r (j_set (j_set h 211 (byC dT cp f)) 210 (sbC (r 211) k)) nx) := by
  refine MC.ofJ [some (.ref (r 210))] rfl (Nat.le_of_ble_eq_true rfl) (by decide) ?_
  refine j_gets dJ0_isLatin1_0 q279 (fun _ hs => hs.2.2.2.2.1) ?_
  refine j_if_eq (tgt := 17) dJ0_isLatin1_3 (by decide) (fun c3 => absurd c3 (by decide)) (fun c3 => ?_)
  refine j_aload_n dJ0_isLatin1_6 rfl ?_
  refine j_get 1 dJ0_isLatin1_7 j_set_self in_J1 rfl (by decide) q289 rfl ?_
  refine j_if_ne (tgt := 17) dJ0_isLatin1_10 (by decide) (fun c10 => absurd rfl c10) (fun c10 => ?_)
  refine j_iconst (v := 1) dJ0_isLatin1_13 (by decide) ?_
  refine j_goto (tgt := 18) dJ0_isLatin1_14 (by decide) ?_
  refine j_iret dJ0_isLatin1_18 rfl rfl (Nat.le_refl _) (Nat.le_refl _) ?_
  exact ⟨rfl, rfl, rfl, rfl⟩
set_option maxHeartbeats 4000000 in
theorem b_can {l : Launch} {D : va_G} {dT : Nat → ClassId} {H0 : Heap} {r : Nat → Nat} {h : j_H} {nx : Nat} (c : Nat) (hc : c < 256) : MC (gG l D dT H0) yJ7_canEncode cJ7_canEncode 1 (some .boolean) 0 0 0 [.int (nI c)] r h nx (jq_i 1 r h nx) := by
  refine MC.ofJ [some (.int (nI c))] rfl (Nat.le_of_ble_eq_true rfl) (by decide) ?_
  refine j_iload_n dJ7_canEncode_0 rfl ?_
  refine j_sipush (v := 255) dJ7_canEncode_1 (by decide) ?_
  refine j_icmp_gt (tgt := 11) dJ7_canEncode_4 (by decide) (fun c4 => absurd c4 (show ¬ nI 255 < nI c from nI_nlt (by omega) (by decide))) (fun c4 => ?_)
  refine j_iconst (v := 1) dJ7_canEncode_7 (by decide) ?_
  refine j_goto (tgt := 12) dJ7_canEncode_8 (by decide) ?_
  refine j_iret dJ7_canEncode_12 rfl rfl (Nat.le_refl _) (Nat.le_refl _) ?_
  exact ⟨rfl, rfl, rfl, rfl⟩
set_option maxHeartbeats 4000000 in
theorem b_ens0 {l : Launch} {D : va_G} {dT : Nat → ClassId} {H0 : Heap} {r : Nat → Nat} {h : j_H} {nx : Nat} {cp k : Nat} {f : Nat → Int32} (q : Nat) (hq : q ≤ cp) (hcp : cp < 2 ^ 30) : MC (gG l D dT H0) yJ0_ensureCapacityInternal cJ0_ensureCapacityInternal 3 none 1 0 0 [.ref (r 210), .int (nI q)] r (j_set (j_set h 211 (byC dT cp f)) 210 (sbC (r 211) k)) nx (jq_v r (j_set (j_set h 211 (byC dT cp f)) 210 (sbC (r 211) k)) nx) := by
  refine MC.ofJ [some (.ref (r 210)), some (.int (nI q)), none] rfl (Nat.le_of_ble_eq_true rfl) (by decide) ?_
  refine j_aload_n dJ0_ensureCapacityInternal_0 rfl ?_
  refine j_get 0 dJ0_ensureCapacityInternal_1 j_set_self in_J1 rfl (by decide) q288 rfl ?_
  refine j_alen 1 dJ0_ensureCapacityInternal_4 (by rw [j_set_ne (by decide)]; exact j_set_self) rfl ?_
  refine j_aload_n dJ0_ensureCapacityInternal_5 rfl ?_
  refine j_get 1 dJ0_ensureCapacityInternal_6 j_set_self in_J1 rfl (by decide) q289 rfl ?_
  refine j_ishr dJ0_ensureCapacityInternal_9 ?_
  refine j_eqi (show _ = nI cp from sh_0 _) ?_
  refine j_istore_n dJ0_ensureCapacityInternal_10 (by decide) rfl ?_
  refine j_iload_n dJ0_ensureCapacityInternal_11 rfl ?_
  refine j_iload_n dJ0_ensureCapacityInternal_12 rfl ?_
  refine j_isub dJ0_ensureCapacityInternal_13 ?_
  skip
  refine j_if_le (tgt := 38) dJ0_ensureCapacityInternal_14 (by decide) (fun c14 => ?_) (fun c14 => absurd (by rw [Int32.le_iff_toInt_le, pk_sub_toInt (by omega) (by omega), show (0 : Int32).toInt = 0 by decide]; omega) c14)
  refine j_vret dJ0_ensureCapacityInternal_38 rfl (Nat.le_refl _) (Nat.le_refl _) ?_
  exact ⟨rfl, rfl, rfl, rfl⟩
