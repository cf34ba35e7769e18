set_option maxRecDepth 100000
theorem nI_inj {a b : Nat} (ha : a < 2 ^ 31) (hb : b < 2 ^ 31) (h : nI a = nI b) : a = b := (nI_eq ha hb).mp h
def bfit (f : Nat → Int32) : Prop := ∀ j, fits .byte (.int (f j)) = true
theorem fits_lo : ∀ c, c < 128 → fits .byte (.int (nI c)) = true := by decide +kernel
theorem bfit.upd {f : Nat → Int32} (h : bfit f) {k c : Nat} (hc : c < 128) : bfit (upd f k (nI c)) := by
  intro j
  show fits .byte (.int (if j = k then nI c else f j)) = true
  split
  · exact fits_lo c hc
  · exact h j
theorem bfit.cpy {f : Nat → Int32} (h : bfit f) {n : Nat} : bfit (va_cpy f (fun _ => 0) 0 0 n) := by
  intro j
  unfold va_cpy
  split
  · exact h _
  · rfl
theorem i_max {a b : Nat} (h : a ≤ b) (hb : b < 2 ^ 31) : (if nI a < nI b then nI b else nI a) = nI b := by
  by_cases e : a = b
  · subst e; split <;> rfl
  · rw [if_pos (nI_lt (by omega) hb)]
theorem i_minL {a b : Nat} (h : a ≤ b) (hb : b < 2 ^ 31) : (if nI b < nI a then nI b else nI a) = nI a := by
  rw [if_neg (nI_nlt h (by omega))]
set_option maxHeartbeats 4000000 in
theorem b_nlen {l : Launch} {D : va_G} {dT : Nat → ClassId} {H0 : Heap} {r : Nat → Nat} {h : j_H} {nx : Nat} (a b c : Nat) (hbc : b ≤ c) (h0 : 0 < a + c) (h1 : a + c < 2 ^ 30) : MC (gG l D dT H0) yJ4_newLength cJ4_newLength 4 (some .int) 1 0 0 [.int (nI a), .int (nI b), .int (nI c)] r h nx (jq_i (nI (a + c)) r h nx) := by
  refine MC.ofJ [some (.int (nI a)), some (.int (nI b)), some (.int (nI c)), none] rfl (Nat.le_of_ble_eq_true rfl) (by decide) ?_
  refine j_iload_n dJ4_newLength_0 rfl ?_
  refine j_iload_n dJ4_newLength_1 rfl ?_
  refine j_iload_n dJ4_newLength_2 rfl ?_
  refine j_max dJ4_newLength_3 q320 ⟨Nat.le_of_ble_eq_true rfl, Nat.le_of_ble_eq_true rfl, Nat.le_of_ble_eq_true rfl, Nat.le_of_ble_eq_true rfl⟩ ?_
  refine j_eqi (i_max hbc (by omega)) ?_
  refine j_iadd dJ4_newLength_6 ?_
  refine j_eqi (show _ = nI (a + c) from nI_add a c) ?_
  refine j_istore_n dJ4_newLength_7 (by decide) rfl ?_
  refine j_iconst (v := 0) dJ4_newLength_8 (by decide) ?_
  refine j_iload_n dJ4_newLength_9 rfl ?_
  refine j_icmp_ge (tgt := 21) dJ4_newLength_10 (by decide) (fun c10 => absurd c10 (show ¬ nI (a + c) ≤ nI 0 from fun q => absurd ((nI_leI (by omega) (by omega)).mp q) (by omega))) (fun c10 => ?_)
  refine j_iload_n dJ4_newLength_13 rfl ?_
  refine j_ldc dJ4_newLength_14 q323 ?_
  refine j_icmp_gt (tgt := 21) dJ4_newLength_16 (by decide) (fun c16 => absurd c16 (show ¬ nI 2147483639 < nI (a + c) from nI_nlt (by omega) (by decide))) (fun c16 => ?_)
  refine j_iload_n dJ4_newLength_19 rfl ?_
  refine j_iret dJ4_newLength_20 rfl rfl (Nat.le_refl _) (Nat.le_refl _) ?_
  exact ⟨rfl, rfl, rfl, rfl⟩
set_option maxHeartbeats 4000000 in
theorem b_ncap {l : Launch} {D : va_G} {dT : Nat → ClassId} {H0 : Heap} {r : Nat → Nat} {h : j_H} {nx : Nat} {cp k : Nat} {f : Nat → Int32} (hcp : cp < 2 ^ 28) : MC (gG l D dT H0) yJ0_newCapacity cJ0_newCapacity 6 (some .int) 2 0 0 [.ref (r 210), .int (nI (cp + 1))] r (j_set (j_set h 211 (byC dT cp f)) 210 (sbC (r 211) k)) nx (jq_i (nI (2 * cp + 2)) r (j_set (j_set h 211 (byC dT cp f)) 210 (sbC (r 211) k)) nx) := by
  refine MC.ofJ [some (.ref (r 210)), some (.int (nI (cp + 1))), none, none, none, none] rfl (Nat.le_of_ble_eq_true rfl) (by decide) ?_
  refine j_aload_n dJ0_newCapacity_0 rfl ?_
  refine j_get 0 dJ0_newCapacity_1 j_set_self in_J1 rfl (by decide) q288 rfl ?_
  refine j_alen 1 dJ0_newCapacity_4 (by rw [j_set_ne (by decide)]; exact j_set_self) rfl ?_
  refine j_istore_n dJ0_newCapacity_5 (by decide) rfl ?_
  refine j_iload_n dJ0_newCapacity_6 rfl ?_
  refine j_aload_n dJ0_newCapacity_7 rfl ?_
  refine j_get 1 dJ0_newCapacity_8 j_set_self in_J1 rfl (by decide) q289 rfl ?_
  refine j_ishl dJ0_newCapacity_11 ?_
  refine j_eqi (show _ = nI (cp + 1) from shl_0 _) ?_
  refine j_istore_n dJ0_newCapacity_12 (by decide) rfl ?_
  refine j_iload_n dJ0_newCapacity_13 rfl ?_
  refine j_iload_n dJ0_newCapacity_14 rfl ?_
  refine j_isub dJ0_newCapacity_15 ?_
  refine j_eqi (show _ = nI 1 by rw [nI_sub (by omega)]; congr 1; omega) ?_
  refine j_istore dJ0_newCapacity_16 (by decide) rfl ?_
  refine j_iload_n dJ0_newCapacity_18 rfl ?_
  refine j_iload dJ0_newCapacity_19 rfl ?_
  refine j_iload_n dJ0_newCapacity_21 rfl ?_
  refine j_iconst (v := 2) dJ0_newCapacity_22 (by decide) ?_
  refine j_aload_n dJ0_newCapacity_23 rfl ?_
  refine j_get 1 dJ0_newCapacity_24 j_set_self in_J1 rfl (by decide) q289 rfl ?_
  refine j_ishl dJ0_newCapacity_27 ?_
  refine j_eqi (show _ = nI 2 by decide) ?_
  refine j_iadd dJ0_newCapacity_28 ?_
  refine j_eqi (show _ = nI (cp + 2) from nI_add cp 2) ?_
  refine j_callSi (b_nlen cp 1 (cp + 2) (by omega) (by omega) (by omega)) dJ0_newCapacity_29 pmJ4_newLength q317 q318 rfl ⟨Nat.le_of_ble_eq_true rfl, Nat.le_of_ble_eq_true rfl⟩ ⟨Nat.le_of_ble_eq_true rfl, Nat.le_of_ble_eq_true rfl⟩ rfl (Nat.le_of_ble_eq_true rfl) ?_
  refine j_istore dJ0_newCapacity_32 (by decide) rfl ?_
  refine j_iload dJ0_newCapacity_34 rfl ?_
  refine j_ldc dJ0_newCapacity_36 q327 ?_
  refine j_icmp_ne (tgt := 51) dJ0_newCapacity_38 (by decide) (fun c38 => ?_) (fun c38 => absurd c38 (show ¬ nI (cp + (cp + 2)) = nI 2147483647 from fun q => absurd (nI_inj (by omega) (by decide) q) (by omega)))
  refine j_iload dJ0_newCapacity_51 rfl ?_
  refine j_aload_n dJ0_newCapacity_53 rfl ?_
  refine j_get 1 dJ0_newCapacity_54 j_set_self in_J1 rfl (by decide) q289 rfl ?_
  refine j_ishr dJ0_newCapacity_57 ?_
  refine j_eqi (show _ = nI (2 * cp + 2) by rw [sh_0]; congr 1; omega) ?_
  refine j_iret dJ0_newCapacity_58 rfl rfl (Nat.le_refl _) (Nat.le_refl _) ?_
  exact ⟨rfl, rfl, rfl, rfl⟩
set_option maxHeartbeats 4000000 in
theorem b_copyOf {l : Launch} {D : va_G} {dT : Nat → ClassId} {H0 : Heap} {r : Nat → Nat} {h : j_H} {nx : Nat} {cp k : Nat} {f : Nat → Int32} (m : Nat) (hm : cp < m) (hmm : m < 2 ^ 29) (hf : bfit f) (hrn : r 212 = nx) : MC (gG l D dT H0) yJ6_copyOf cJ6_copyOf 3 (some (.array .byte)) 1 1 m [.ref (r 211), .int (nI m)] r (j_set (j_set h 211 (byC dT cp f)) 210 (sbC (r 211) k)) nx (jq_n 212 r (j_set (j_set (j_set h 211 (byC dT cp f)) 210 (sbC (r 211) k)) 212 (byC dT m (va_cpy f (fun _ => 0) 0 0 cp))) (nx + 1)) := by
  refine MC.ofJ [some (.ref (r 211)), some (.int (nI m)), none] rfl (Nat.le_of_ble_eq_true rfl) (by decide) ?_
  refine j_iload_n dJ6_copyOf_0 rfl ?_
  refine j_aload_n dJ6_copyOf_1 rfl ?_
  refine j_alen 1 dJ6_copyOf_2 (by rw [j_set_ne (by decide)]; exact j_set_self) rfl ?_
  refine j_icmp_ne (tgt := 14) dJ6_copyOf_3 (by decide) (fun c3 => ?_) (fun c3 => absurd c3 (fun q => absurd (nI_inj (by omega) (by omega) q) (by omega)))
  refine j_iload_n dJ6_copyOf_14 rfl ?_
  refine j_newa (n := m) (a0 := (m, .inl (fun _ => 0))) 212 1 hrn dJ6_copyOf_15 q214 rfl rfl rfl (by omega) (fun _ => rfl) (by show m * 1 ≤ 536870912; omega) (Nat.le_of_ble_eq_true rfl) (by show 0 + m ≤ m; omega) ?_
  refine j_astore_n dJ6_copyOf_17 (by decide) rfl ?_
  refine j_aload_n dJ6_copyOf_18 rfl ?_
  refine j_iconst (v := 0) dJ6_copyOf_19 (by decide) ?_
  refine j_aload_n dJ6_copyOf_20 rfl ?_
  refine j_iconst (v := 0) dJ6_copyOf_21 (by decide) ?_
  refine j_aload_n dJ6_copyOf_22 rfl ?_
  refine j_alen 1 dJ6_copyOf_23 (by rw [j_set_ne (by decide), j_set_ne (by decide)]; exact j_set_self) rfl ?_
  refine j_iload_n dJ6_copyOf_24 rfl ?_
  refine j_min dJ6_copyOf_25 q338 ⟨(Nat.le_of_ble_eq_true rfl), (Nat.le_of_ble_eq_true rfl), (Nat.le_of_ble_eq_true rfl), (by show 0 + m ≤ m; omega)⟩ ?_
  refine j_eqi (i_minL (Nat.le_of_lt hm) (by omega)) ?_
  refine j_copy (i0 := 211) (i1 := 212) (sp := 0) (dp := 0) (n := cp) (n0 := cp) (n1 := m) (t0 := 1) (ty := .byte) (f := f) (g := fun _ => 0) dJ6_copyOf_28 q341 (by rw [j_set_ne (by decide), j_set_ne (by decide)]; exact j_set_self) j_set_self rfl rfl rfl rfl rfl rfl (by omega) (by omega) (by omega) (by omega) (fun i _ => hf _) ⟨(Nat.le_of_ble_eq_true rfl), (Nat.le_of_ble_eq_true rfl)⟩ ?_
  refine j_re rfl rfl j_set2 ?_
  refine j_aload_n dJ6_copyOf_31 rfl ?_
  refine j_aret dJ6_copyOf_32 rfl (Or.inr ⟨_, rfl⟩) (Or.inr ⟨_, rfl⟩) (Nat.le_of_ble_eq_true rfl) (by show 0 + m ≤ m; omega) ?_
  exact ⟨rfl, rfl, rfl, rfl⟩
