set_option maxRecDepth 100000
/-- the new array takes the old one's id -/
theorem sb_ids {h : j_H} {r : Nat → Nat} {nx : Nat} {A B C D : va_E} (h212 : h 212 = none) (hrn : r 212 = nx) : (∀ i e, (j_set (j_set h 211 C) 210 D) i = some e → (j_set (j_set (j_set (j_set h 211 A) 210 B) 212 C) 210 D) (if i = 211 then 212 else i) = some e ∧ (va_up r 211 nx) i = r (if i = 211 then 212 else i)) ∧ (∀ i j a b, (j_set (j_set h 211 C) 210 D) i = some a → (j_set (j_set h 211 C) 210 D) j = some b → (if i = 211 then 212 else i) = (if j = 211 then 212 else j) → i = j) := by
  have n212 : (j_set (j_set h 211 C) 210 D) 212 = none := by rw [j_set_ne (by decide), j_set_ne (by decide)]; exact h212
  refine ⟨fun i e hi => ?_, fun i j a b hi hj hij => ?_⟩
  · by_cases e1 : i = 211
    · subst e1
      rw [if_pos rfl, va_up_self, hrn]
      rw [j_set_ne (by decide), j_set_self] at hi
      rw [j_set_ne (by decide), j_set_self]
      exact ⟨hi, rfl⟩
    · rw [if_neg e1, va_up_ne _ _ e1]
      refine ⟨?_, rfl⟩
      by_cases e0 : i = 210
      · subst e0
        rw [j_set_self] at hi ⊢
        exact hi
      · by_cases e2 : i = 212
        · subst e2
          rw [n212] at hi
          cases hi
        · rw [j_set_ne e0, j_set_ne e1] at hi
          rw [j_set_ne e0, j_set_ne e2, j_set_ne e0, j_set_ne e1]
          exact hi
  · by_cases e1 : i = 211 <;> by_cases e2 : j = 211
    · rw [e1, e2]
    · rw [if_pos e1, if_neg e2] at hij
      rw [← hij, n212] at hj
      cases hj
    · rw [if_neg e1, if_pos e2] at hij
      rw [hij, n212] at hi
      cases hi
    · rw [if_neg e1, if_neg e2] at hij
      exact hij
set_option maxHeartbeats 4000000 in
theorem b_ens1 {l : Launch} {D : va_G} {dT : Nat → ClassId} {H0 : Heap} {r : Nat → Nat} {h : j_H} {nx : Nat} {cp k : Nat} {f : Nat → Int32} (hcp : cp < 2 ^ 27) (hf : bfit f) (h212 : h 212 = none) (hrn : r 212 = nx) : MC (gG l D dT H0) yJ0_ensureCapacityInternal cJ0_ensureCapacityInternal 3 none 3 1 (2 * cp + 2) [.ref (r 210), .int (nI (cp + 1))] r (j_set (j_set h 211 (byC dT cp f)) 210 (sbC (r 211) k)) nx (jq_v (va_up r 211 nx) (j_set (j_set h 211 (byC dT (2 * cp + 2) (va_cpy f (fun _ => 0) 0 0 cp))) 210 (sbC ((va_up r 211 nx) 211) k)) (nx + 1)) := by
  refine MC.ofJ [some (.ref (r 210)), some (.int (nI (cp + 1))), none] rfl (Nat.le_of_ble_eq_true rfl) (by decide) ?_
  refine j_aload_n dJ0_ensureCapacityInternal_0 rfl ?_
  refine j_get 0 dJ0_ensureCapacityInternal_1 j_set_self in_J1 rfl (by decide) q288 rfl ?_
  refine j_alen 1 dJ0_ensureCapacityInternal_4 (by rw [j_set_ne (by decide)]; exact j_set_self) rfl ?_
  refine j_aload_n dJ0_ensureCapacityInternal_5 rfl ?_
  refine j_get 1 dJ0_ensureCapacityInternal_6 j_set_self in_J1 rfl (by decide) q289 rfl ?_
  refine j_ishr dJ0_ensureCapacityInternal_9 ?_
  refine j_eqi (show _ = nI cp from sh_0 _) ?_
  refine j_istore_n dJ0_ensureCapacityInternal_10 (by decide) rfl ?_
  refine j_iload_n dJ0_ensureCapacityInternal_11 rfl ?_
  refine j_iload_n dJ0_ensureCapacityInternal_12 rfl ?_
  refine j_isub dJ0_ensureCapacityInternal_13 ?_
  refine j_eqi (show _ = nI 1 by rw [nI_sub (by omega)]; congr 1; omega) ?_
  refine j_if_le (tgt := 38) dJ0_ensureCapacityInternal_14 (by decide) (fun c14 => absurd c14 (by decide)) (fun c14 => ?_)
  refine j_aload_n dJ0_ensureCapacityInternal_17 rfl ?_
  refine j_aload_n dJ0_ensureCapacityInternal_18 rfl ?_
  refine j_get 0 dJ0_ensureCapacityInternal_19 j_set_self in_J1 rfl (by decide) q288 rfl ?_
  refine j_aload_n dJ0_ensureCapacityInternal_22 rfl ?_
  refine j_iload_n dJ0_ensureCapacityInternal_23 rfl ?_
  refine j_callP (b_ncap (by omega)) jq_i.isR dJ0_ensureCapacityInternal_24 pmJ0_newCapacity q313 q1507 q315 (fun _ hs => hs.1 _ qnS2) j_set_self rfl rfl ⟨(Nat.le_of_ble_eq_true rfl), (Nat.le_of_ble_eq_true rfl)⟩ ⟨(Nat.le_of_ble_eq_true rfl), (by show 0 + 0 ≤ 2 * cp + 2; omega)⟩ rfl (Nat.le_of_ble_eq_true rfl) ?_
  rintro v r' h' nx' ⟨e1, e2, e3, e4⟩
  obtain rfl := e2.symm
  obtain rfl := e3.symm
  obtain rfl := e4.symm
  cases e1
  refine j_aload_n dJ0_ensureCapacityInternal_27 rfl ?_
  refine j_get 1 dJ0_ensureCapacityInternal_28 j_set_self in_J1 rfl (by decide) q289 rfl ?_
  refine j_ishl dJ0_ensureCapacityInternal_31 ?_
  refine j_eqi (show _ = nI (2 * cp + 2) from shl_0 _) ?_
  refine j_callS (b_copyOf (cp := cp) (2 * cp + 2) (by omega) (by omega) hf hrn) jq_n.isR dJ0_ensureCapacityInternal_32 pmJ6_copyOf q328 q329 rfl ⟨Nat.le_of_ble_eq_true rfl, Nat.le_of_ble_eq_true rfl⟩ ⟨(Nat.le_of_ble_eq_true rfl), (by show 0 + 0 + (2 * cp + 2) ≤ 2 * cp + 2; omega)⟩ rfl (Nat.le_of_ble_eq_true rfl) ?_
  rintro v r' h' nx' ⟨e1, e2, e3, e4⟩
  obtain rfl := e2.symm
  obtain rfl := e3.symm
  obtain rfl := e4.symm
  cases e1
  refine j_put 0 dJ0_ensureCapacityInternal_35 (by rw [j_set_ne (by decide)]; exact j_set_self) in_J1 tyJ1_ok nmJ1 rfl (by decide) q288 rfl rfl rfl (by first | decide | simp) ?_
  refine j_ids (r' := (va_up r 211 nx)) (h' := (j_set (j_set h 211 (byC dT (2 * cp + 2) (va_cpy f (fun _ => 0) 0 0 cp))) 210 (sbC ((va_up r 211 nx) 211) k))) (fun i => if i = 211 then 212 else i) (fun i e hi => ?_) (fun i j a b hi hj hij => ?_) ?_
  · exact (sb_ids h212 hrn).1 i e (by rw [va_up_self, ← hrn] at hi; exact hi)
  · exact (sb_ids (A := byC dT cp f) (B := sbC (r 211) k) h212 hrn).2 i j a b (by rw [va_up_self, ← hrn] at hi; exact hi) (by rw [va_up_self, ← hrn] at hj; exact hj) hij
  refine j_vret dJ0_ensureCapacityInternal_38 rfl (Nat.le_of_ble_eq_true rfl) (by show 0 + 0 + (2 * cp + 2) ≤ 2 * cp + 2; omega) ?_
  exact jr_v rfl
set_option maxHeartbeats 4000000 in
theorem b_app1 {l : Launch} {D : va_G} {dT : Nat → ClassId} {H0 : Heap} {r : Nat → Nat} {h : j_H} {nx : Nat} {cp : Nat} {f : Nat → Int32} (c : Nat) (hc : c < 128) (hcp : cp < 2 ^ 27) (hf : bfit f) (h212 : h 212 = none) (hrn : r 212 = nx) : MC (gG l D dT H0) yJ0_append cJ0_append 2 (some (.object "java/lang/AbstractStringBuilder")) 4 1 (2 * cp + 2) [.ref (r 210), .int (nI c)] r (j_set (j_set h 211 (byC dT cp f)) 210 (sbC (r 211) cp)) nx (jq_n 210 (va_up r 211 nx) (j_set (j_set h 211 (byC dT (2 * cp + 2) (upd (va_cpy f (fun _ => 0) 0 0 cp) cp (nI c)))) 210 (sbC ((va_up r 211 nx) 211) (cp + 1))) (nx + 1)) := by
  refine MC.ofJ [some (.ref (r 210)), some (.int (nI c))] rfl (Nat.le_of_ble_eq_true rfl) (by decide) ?_
  refine j_aload_n dJ0_append_0 rfl ?_
  refine j_aload_n dJ0_append_1 rfl ?_
  refine j_get 3 dJ0_append_2 j_set_self in_J1 rfl (by decide) q291 rfl ?_
  refine j_iconst (v := 1) dJ0_append_5 (by decide) ?_
  refine j_iadd dJ0_append_6 ?_
  refine j_eqi (show _ = nI (cp + 1) from nI_1 cp) ?_
  refine j_callP (b_ens1 hcp hf h212 hrn) (fun _ _ _ _ hq => ⟨_, hq.1⟩) dJ0_append_7 pmJ0_ensureCapacityInternal q309 q1506 q311 (fun _ hs => hs.1 _ qnS1) j_set_self rfl rfl ⟨(Nat.le_of_ble_eq_true rfl), (Nat.le_of_ble_eq_true rfl)⟩ ⟨(Nat.le_of_ble_eq_true rfl), (by show 0 + (2 * cp + 2) ≤ 2 * cp + 2; omega)⟩ rfl (Nat.le_of_ble_eq_true rfl) ?_
  rintro v r' h' nx' ⟨e1, e2, e3, e4⟩
  obtain rfl := e2.symm
  obtain rfl := e3.symm
  obtain rfl := e4.symm
  cases e1
  refine j_re (L' := [some (.ref ((va_up r 211 nx) 210)), some (.int (nI c))]) rfl rfl rfl ?_
  refine j_aload_n dJ0_append_10 rfl ?_
  refine j_callOi (b_latin (r := (va_up r 211 nx))) dJ0_append_11 pmJ0_isLatin1 q344 q346 q345 q348 q345 q347 ⟨by decide, by decide, rfl⟩ j_set_self rfl rfl ⟨(Nat.le_of_ble_eq_true rfl), (Nat.le_of_ble_eq_true rfl)⟩ ⟨(Nat.le_of_ble_eq_true rfl), (by show 0 + (2 * cp + 2) + 0 ≤ 2 * cp + 2; omega)⟩ rfl (Nat.le_of_ble_eq_true rfl) ?_
  refine j_if_eq (tgt := 45) dJ0_append_14 (by decide) (fun c14 => absurd c14 (by decide)) (fun c14 => ?_)
  refine j_iload_n dJ0_append_17 rfl ?_
  refine j_callSi (b_can c (by omega)) dJ0_append_18 pmJ7_canEncode q349 q350 rfl ⟨Nat.le_of_ble_eq_true rfl, Nat.le_of_ble_eq_true rfl⟩ ⟨(Nat.le_of_ble_eq_true rfl), (by show 0 + (2 * cp + 2) + 0 + 0 ≤ 2 * cp + 2; omega)⟩ rfl (Nat.le_of_ble_eq_true rfl) ?_
  refine j_if_eq (tgt := 45) dJ0_append_21 (by decide) (fun c21 => absurd c21 (by decide)) (fun c21 => ?_)
  refine j_aload_n dJ0_append_24 rfl ?_
  refine j_get 0 dJ0_append_25 j_set_self in_J1 rfl (by decide) q288 rfl ?_
  refine j_aload_n dJ0_append_28 rfl ?_
  refine j_dup dJ0_append_29 rfl ?_
  refine j_get 3 dJ0_append_30 j_set_self in_J1 rfl (by decide) q291 rfl ?_
  refine j_dup_x1 dJ0_append_33 rfl rfl ?_
  refine j_iconst (v := 1) dJ0_append_34 (by decide) ?_
  refine j_iadd dJ0_append_35 ?_
  refine j_eqi (show _ = nI (cp + 1) from nI_1 cp) ?_
  refine j_put 3 dJ0_append_36 j_set_self in_J1 tyJ1_ok nmJ1 rfl (by decide) q291 rfl rfl rfl (by first | decide | simp) ?_
  refine j_re rfl rfl (h' := (j_set (j_set h 211 (byC dT (2 * cp + 2) (va_cpy f (fun _ => 0) 0 0 cp))) 210 (sbC ((va_up r 211 nx) 211) (cp + 1)))) j_set2 ?_
  refine j_iload_n dJ0_append_39 rfl ?_
  refine j_i2b dJ0_append_40 ?_
  refine j_bast 1 cp dJ0_append_41 (by rw [j_set_ne (by decide)]; exact j_set_self) rfl rfl (by omega) (by omega) ?_
  refine j_re rfl rfl (h' := (j_set (j_set h 211 (byC dT (2 * cp + 2) (upd (va_cpy f (fun _ => 0) 0 0 cp) cp (nI c)))) 210 (sbC ((va_up r 211 nx) 211) (cp + 1)))) (by rw [i2b_lo c hc, j_set_comm _ _ _ (show (210 : Nat) ≠ 211 by decide), j_set2]; rfl) ?_
  refine j_goto (tgt := 75) dJ0_append_42 (by decide) ?_
  refine j_aload_n dJ0_append_75 rfl ?_
  refine j_aret dJ0_append_76 rfl (Or.inl ⟨_, rfl⟩) (Or.inr ⟨_, rfl⟩) (Nat.le_of_ble_eq_true rfl) (by show 0 + (2 * cp + 2) + 0 + 0 ≤ 2 * cp + 2; omega) ?_
  exact ⟨rfl, rfl, rfl, rfl⟩
set_option maxHeartbeats 4000000 in
theorem b_ap0 {l : Launch} {D : va_G} {dT : Nat → ClassId} {H0 : Heap} {r : Nat → Nat} {h : j_H} {nx : Nat} {cp k : Nat} {f : Nat → Int32} (c : Nat) (hc : c < 128) (hk : k < cp) (hcp : cp < 2 ^ 30) : MC (gG l D dT H0) yJ1_append cJ1_append 2 (some (.object "java/lang/StringBuilder")) 3 0 0 [.ref (r 210), .int (nI c)] r (j_set (j_set h 211 (byC dT cp f)) 210 (sbC (r 211) k)) nx (jq_n 210 r (j_set (j_set h 211 (byC dT cp (upd f k (nI c)))) 210 (sbC (r 211) (k + 1))) nx) := by
  refine MC.ofJ [some (.ref (r 210)), some (.int (nI c))] rfl (Nat.le_of_ble_eq_true rfl) (by decide) ?_
  refine j_aload_n dJ1_append_0 rfl ?_
  refine j_iload_n dJ1_append_1 rfl ?_
  refine j_callU (b_app0 c hc hk hcp) jq_n.isR dJ1_append_2 pmJ0_append q306 q1505 q300 q307 (by decide) j_set_self rfl rfl ⟨(Nat.le_of_ble_eq_true rfl), (Nat.le_of_ble_eq_true rfl)⟩ ⟨(Nat.le_of_ble_eq_true rfl), (Nat.le_of_ble_eq_true rfl)⟩ rfl (Nat.le_of_ble_eq_true rfl) ?_
  rintro v r' h' nx' ⟨e1, e2, e3, e4⟩
  obtain rfl := e2.symm
  obtain rfl := e3.symm
  obtain rfl := e4.symm
  cases e1
  refine j_pop dJ1_append_5 rfl ?_
  refine j_aload_n dJ1_append_6 rfl ?_
  refine j_aret dJ1_append_7 rfl (Or.inl ⟨_, rfl⟩) (Or.inr ⟨_, rfl⟩) (Nat.le_refl _) (Nat.le_refl _) ?_
  exact ⟨rfl, rfl, rfl, rfl⟩
set_option maxHeartbeats 4000000 in
theorem b_ap1 {l : Launch} {D : va_G} {dT : Nat → ClassId} {H0 : Heap} {r : Nat → Nat} {h : j_H} {nx : Nat} {cp : Nat} {f : Nat → Int32} (c : Nat) (hc : c < 128) (hcp : cp < 2 ^ 27) (hf : bfit f) (h212 : h 212 = none) (hrn : r 212 = nx) : MC (gG l D dT H0) yJ1_append cJ1_append 2 (some (.object "java/lang/StringBuilder")) 5 1 (2 * cp + 2) [.ref (r 210), .int (nI c)] r (j_set (j_set h 211 (byC dT cp f)) 210 (sbC (r 211) cp)) nx (jq_n 210 (va_up r 211 nx) (j_set (j_set h 211 (byC dT (2 * cp + 2) (upd (va_cpy f (fun _ => 0) 0 0 cp) cp (nI c)))) 210 (sbC ((va_up r 211 nx) 211) (cp + 1))) (nx + 1)) := by
  refine MC.ofJ [some (.ref (r 210)), some (.int (nI c))] rfl (Nat.le_of_ble_eq_true rfl) (by decide) ?_
  refine j_aload_n dJ1_append_0 rfl ?_
  refine j_iload_n dJ1_append_1 rfl ?_
  refine j_callU (b_app1 c hc hcp hf h212 hrn) jq_n.isR dJ1_append_2 pmJ0_append q306 q1505 q300 q307 (by decide) j_set_self rfl rfl ⟨(Nat.le_of_ble_eq_true rfl), (Nat.le_of_ble_eq_true rfl)⟩ ⟨(Nat.le_of_ble_eq_true rfl), (by show 0 + (2 * cp + 2) ≤ 2 * cp + 2; omega)⟩ rfl (Nat.le_of_ble_eq_true rfl) ?_
  rintro v r' h' nx' ⟨e1, e2, e3, e4⟩
  obtain rfl := e2.symm
  obtain rfl := e3.symm
  obtain rfl := e4.symm
  cases e1
  refine j_pop dJ1_append_5 rfl ?_
  refine j_aload_n dJ1_append_6 rfl ?_
  refine j_aret dJ1_append_7 rfl (Or.inl ⟨_, rfl⟩) (Or.inr ⟨_, rfl⟩) (Nat.le_of_ble_eq_true rfl) (by show 0 + (2 * cp + 2) ≤ 2 * cp + 2; omega) ?_
  exact ⟨rfl, rfl, rfl, rfl⟩
