set_option maxRecDepth 100000

def strC (b : Nat) : va_E := .inr (14, [.ref b, .int 0, .int 0, .int 0])
def strN : va_E := .inr (14, [.null, .int 0, .int 0, .int 0])
/-- bytes copied: the first k -/
def q_cor (k : Nat) (f : Nat → Int32) (dT : Nat → ClassId) (r : Nat → Nat) (h : j_H) (nx : Nat) : j_Q := fun o r' h' nx' => o = .returned (some (.ref (r 214))) ∧ r' = r ∧ nx' = nx + 1 ∧ ∃ g : Nat → Int32, (∀ j, j < k → g j = f j) ∧ h' = j_set h 214 (byC dT k g)
theorem q_cor.isR {k : Nat} {f : Nat → Int32} {dT : Nat → ClassId} {r : Nat → Nat} {h : j_H} {nx : Nat} : j_isR (q_cor k f dT r h nx) := fun _ _ _ _ hq => ⟨_, hq.1⟩
theorem cpy_lo {f g : Nat → Int32} {k j : Nat} (hj : j < k) : va_cpy f g 0 0 k j = f j := by
  unfold va_cpy
  rw [if_pos ⟨Nat.zero_le _, by omega⟩, Nat.zero_add, Nat.sub_zero]
theorem nI_s0 (x : Nat) : nI x - 0 = nI x := Int32.sub_zero _
set_option maxHeartbeats 4000000 in
theorem b_chk {l : Launch} {D : va_G} {dT : Nat → ClassId} {H0 : Heap} {r : Nat → Nat} {h : j_H} {nx : Nat} (k : Nat) (hk : k < 2 ^ 31) : MC (gG l D dT H0) yJ6_checkLength cJ6_checkLength 2 none 0 0 0 [.int 0, .int (nI k)] r h nx (jq_v r h nx) := by
  refine MC.ofJ [some (.int 0), some (.int (nI k))] rfl (Nat.le_of_ble_eq_true rfl) (by decide) ?_
  refine j_iload_n dJ6_checkLength_0 rfl ?_
  refine j_iload_n dJ6_checkLength_1 rfl ?_
  refine j_icmp_ge (tgt := 37) dJ6_checkLength_2 (by decide) (fun c2 => ?_) (fun c2 => absurd (show nI 0 ≤ nI k from nI_le (by omega) (by omega)) c2)
  refine j_vret dJ6_checkLength_37 rfl (Nat.le_refl _) (Nat.le_refl _) ?_
  exact ⟨rfl, rfl, rfl, rfl⟩
set_option maxHeartbeats 4000000 in
theorem b_corb {l : Launch} {D : va_G} {dT : Nat → ClassId} {H0 : Heap} {r : Nat → Nat} {h : j_H} {nx : Nat} {cp k k2 : Nat} {f : Nat → Int32} (hk : k ≤ cp) (hcp : cp < 2 ^ 29) (hf : bfit f) (hrn : r 214 = nx) : MC (gG l D dT H0) yJ6_copyOfRangeByte cJ6_copyOfRangeByte 5 (some (.array .byte)) 1 1 k [.ref (r 211), .int 0, .int (nI k)] r (j_set (j_set h 211 (byC dT cp f)) 210 (sbC (r 211) k2)) nx (q_cor k f dT r (j_set (j_set h 211 (byC dT cp f)) 210 (sbC (r 211) k2)) nx) := by
  refine MC.ofJ [some (.ref (r 211)), some (.int 0), some (.int (nI k)), none, none] rfl (Nat.le_of_ble_eq_true rfl) (by decide) ?_
  refine j_iload_n dJ6_copyOfRangeByte_0 rfl ?_
  refine j_iload_n dJ6_copyOfRangeByte_1 rfl ?_
  refine j_callSv (b_chk k (by omega)) dJ6_copyOfRangeByte_2 pmJ6_checkLength q430 q431 rfl ⟨Nat.le_of_ble_eq_true rfl, Nat.le_of_ble_eq_true rfl⟩ ⟨(Nat.le_of_ble_eq_true rfl), (by show 0 + 0 ≤ k; omega)⟩ rfl (Nat.le_of_ble_eq_true rfl) ?_
  refine j_iload_n dJ6_copyOfRangeByte_5 rfl ?_
  refine j_iload_n dJ6_copyOfRangeByte_6 rfl ?_
  refine j_isub dJ6_copyOfRangeByte_7 ?_
  refine j_eqi (nI_s0 k) ?_
  refine j_istore_n dJ6_copyOfRangeByte_8 (by decide) rfl ?_
  refine j_iload_n dJ6_copyOfRangeByte_9 rfl ?_
  refine j_newa (n := k) (a0 := (k, .inl (fun _ => 0))) 214 1 hrn dJ6_copyOfRangeByte_10 q214 rfl rfl rfl (by omega) (fun _ => rfl) (by show k * 1 ≤ 536870912; omega) (Nat.le_of_ble_eq_true rfl) (by show 0 + k ≤ k; omega) ?_
  refine j_astore dJ6_copyOfRangeByte_12 (by decide) rfl ?_
  refine j_aload_n dJ6_copyOfRangeByte_14 rfl ?_
  refine j_iload_n dJ6_copyOfRangeByte_15 rfl ?_
  refine j_aload dJ6_copyOfRangeByte_16 rfl ?_
  refine j_iconst (v := 0) dJ6_copyOfRangeByte_18 (by decide) ?_
  refine j_aload_n dJ6_copyOfRangeByte_19 rfl ?_
  refine j_alen 1 dJ6_copyOfRangeByte_20 (by rw [j_set_ne (by decide), j_set_ne (by decide)]; exact j_set_self) rfl ?_
  refine j_iload_n dJ6_copyOfRangeByte_21 rfl ?_
  refine j_isub dJ6_copyOfRangeByte_22 ?_
  refine j_eqi (nI_s0 cp) ?_
  refine j_iload_n dJ6_copyOfRangeByte_23 rfl ?_
  refine j_min dJ6_copyOfRangeByte_24 q338 ⟨(Nat.le_of_ble_eq_true rfl), (Nat.le_of_ble_eq_true rfl), (Nat.le_of_ble_eq_true rfl), (by show 0 + k ≤ k; omega)⟩ ?_
  refine j_eqi (x' := nI k) (by split; rfl; rename_i h9; congr 1; have h8 : ¬ k < cp := fun q => h9 (nI_lt q (by omega)); omega) ?_
  refine j_copy (i0 := 211) (i1 := 214) (sp := 0) (dp := 0) (n := k) (n0 := cp) (n1 := k) (t0 := 1) (ty := .byte) (f := f) (g := fun _ => 0) dJ6_copyOfRangeByte_27 q341 (by rw [j_set_ne (by decide), j_set_ne (by decide)]; exact j_set_self) j_set_self rfl rfl rfl rfl rfl rfl (by omega) (by omega) (by omega) (by omega) (fun i _ => hf _) ⟨(Nat.le_of_ble_eq_true rfl), (Nat.le_of_ble_eq_true rfl)⟩ ?_
  refine j_re rfl rfl j_set2 ?_
  refine j_aload dJ6_copyOfRangeByte_30 rfl ?_
  refine j_aret dJ6_copyOfRangeByte_32 rfl (Or.inr ⟨_, rfl⟩) (Or.inr ⟨_, rfl⟩) (Nat.le_of_ble_eq_true rfl) (by show 0 + k ≤ k; omega) ?_
  exact ⟨rfl, rfl, rfl, _, fun j hj => cpy_lo hj, rfl⟩
set_option maxHeartbeats 4000000 in
theorem b_cor0 {l : Launch} {D : va_G} {dT : Nat → ClassId} {H0 : Heap} {r : Nat → Nat} {h : j_H} {nx : Nat} {cp k k2 : Nat} {f : Nat → Int32} (hk : k ≤ cp) (hcp : cp < 2 ^ 29) (hf : bfit f) (hrn : r 214 = nx) (hlt : k < cp) : MC (gG l D dT H0) yJ6_copyOfRange cJ6_copyOfRange 3 (some (.array .byte)) 2 1 k [.ref (r 211), .int 0, .int (nI k)] r (j_set (j_set h 211 (byC dT cp f)) 210 (sbC (r 211) k2)) nx (q_cor k f dT r (j_set (j_set h 211 (byC dT cp f)) 210 (sbC (r 211) k2)) nx) := by
  refine MC.ofJ [some (.ref (r 211)), some (.int 0), some (.int (nI k))] rfl (Nat.le_of_ble_eq_true rfl) (by decide) ?_
  refine j_iload_n dJ6_copyOfRange_0 rfl ?_
  refine j_if_ne (tgt := 10) dJ6_copyOfRange_1 (by decide) (fun c1 => absurd rfl c1) (fun c1 => ?_)
  refine j_iload_n dJ6_copyOfRange_4 rfl ?_
  refine j_aload_n dJ6_copyOfRange_5 rfl ?_
  refine j_alen 1 dJ6_copyOfRange_6 (by rw [j_set_ne (by decide)]; exact j_set_self) rfl ?_
  refine j_icmp_eq (tgt := 17) dJ6_copyOfRange_7 (by decide) (fun c7 => absurd c7 (fun q => absurd (nI_inj (by omega) (by omega) q) (by omega))) (fun c7 => ?_)
  refine j_aload_n dJ6_copyOfRange_10 rfl ?_
  refine j_iload_n dJ6_copyOfRange_11 rfl ?_
  refine j_iload_n dJ6_copyOfRange_12 rfl ?_
  refine j_callS (b_corb hk hcp hf hrn) q_cor.isR dJ6_copyOfRange_13 pmJ6_copyOfRangeByte q427 q428 rfl ⟨Nat.le_of_ble_eq_true rfl, Nat.le_of_ble_eq_true rfl⟩ ⟨(Nat.le_of_ble_eq_true rfl), (by show 0 + k ≤ k; omega)⟩ rfl (Nat.le_of_ble_eq_true rfl) ?_
  rintro v r' h' nx' ⟨e1, e2, e4, g, hg, e3⟩
  obtain rfl := e2.symm
  obtain rfl := e3.symm
  obtain rfl := e4.symm
  cases e1
  refine j_aret dJ6_copyOfRange_16 rfl (Or.inr ⟨_, rfl⟩) (Or.inr ⟨_, rfl⟩) (Nat.le_of_ble_eq_true rfl) (by show 0 + k ≤ k; omega) ?_
  exact ⟨rfl, rfl, rfl, g, hg, rfl⟩
set_option maxHeartbeats 4000000 in
theorem b_cor1 {l : Launch} {D : va_G} {dT : Nat → ClassId} {H0 : Heap} {r : Nat → Nat} {h : j_H} {nx : Nat} {cp k k2 : Nat} {f : Nat → Int32} (hk : k ≤ cp) (hcp : cp < 2 ^ 29) (hf : bfit f) (hrn : r 214 = nx) (heq : k = cp) : MC (gG l D dT H0) yJ6_copyOfRange cJ6_copyOfRange 3 (some (.array .byte)) 2 1 k [.ref (r 211), .int 0, .int (nI k)] r (j_set (j_set h 211 (byC dT cp f)) 210 (sbC (r 211) k2)) nx (q_cor k f dT r (j_set (j_set h 211 (byC dT cp f)) 210 (sbC (r 211) k2)) nx) := by
  refine MC.ofJ [some (.ref (r 211)), some (.int 0), some (.int (nI k))] rfl (Nat.le_of_ble_eq_true rfl) (by decide) ?_
  refine j_iload_n dJ6_copyOfRange_0 rfl ?_
  refine j_if_ne (tgt := 10) dJ6_copyOfRange_1 (by decide) (fun c1 => absurd rfl c1) (fun c1 => ?_)
  refine j_iload_n dJ6_copyOfRange_4 rfl ?_
  refine j_aload_n dJ6_copyOfRange_5 rfl ?_
  refine j_alen 1 dJ6_copyOfRange_6 (by rw [j_set_ne (by decide)]; exact j_set_self) rfl ?_
  refine j_icmp_eq (tgt := 17) dJ6_copyOfRange_7 (by decide) (fun c7 => ?_) (fun c7 => absurd (by rw [heq]) c7)
  refine j_aload_n dJ6_copyOfRange_17 rfl ?_
  refine j_cloneB 214 1 (i := 211) (n := cp) (f := f) hrn dJ6_copyOfRange_18 q331 q332 q333 q334 q335 (fun _ hs => hs.1 _ qn336) (by rw [j_set_ne (by decide)]; exact j_set_self) rfl (fun j _ => hf j) ⟨(Nat.le_of_ble_eq_true rfl), (Nat.le_of_ble_eq_true rfl)⟩ (Nat.le_of_ble_eq_true rfl) (by show 0 + cp ≤ k; omega) ?_
  refine j_castB 1 dJ6_copyOfRange_21 q337 j_set_self rfl ?_
  refine j_aret dJ6_copyOfRange_24 rfl (Or.inr ⟨_, rfl⟩) (Or.inr ⟨_, rfl⟩) (Nat.le_of_ble_eq_true rfl) (by show 0 + cp ≤ k; omega) ?_
  exact ⟨rfl, rfl, rfl, f, fun _ _ => rfl, by rw [heq]; rfl⟩
theorem b_cor {l : Launch} {D : va_G} {dT : Nat → ClassId} {H0 : Heap} {r : Nat → Nat} {h : j_H} {nx : Nat} {cp k k2 : Nat} {f : Nat → Int32} (hk : k ≤ cp) (hcp : cp < 2 ^ 29) (hf : bfit f) (hrn : r 214 = nx) : MC (gG l D dT H0) yJ6_copyOfRange cJ6_copyOfRange 3 (some (.array .byte)) 2 1 k [.ref (r 211), .int 0, .int (nI k)] r (j_set (j_set h 211 (byC dT cp f)) 210 (sbC (r 211) k2)) nx (q_cor k f dT r (j_set (j_set h 211 (byC dT cp f)) 210 (sbC (r 211) k2)) nx) := by
  by_cases e : k = cp
  · exact b_cor1 hk hcp hf hrn e
  · exact b_cor0 hk hcp hf hrn (by omega)
set_option maxHeartbeats 4000000 in
theorem b_getv {l : Launch} {D : va_G} {dT : Nat → ClassId} {H0 : Heap} {r : Nat → Nat} {h : j_H} {nx : Nat} {cp k : Nat} {f : Nat → Int32} : MC (gG l D dT H0) yJ0_getValue cJ0_getValue 1 (some (.array .byte)) 0 0 0 [.ref (r 210)] r (j_set (j_set h 211 (byC dT cp f)) 210 (sbC (r 211) k)) nx (jq_n 211 r (j_set (j_set h 211 (byC dT cp f)) 210 (sbC (r 211) k)) nx) := by
  refine MC.ofJ [some (.ref (r 210))] rfl (Nat.le_of_ble_eq_true rfl) (by decide) ?_
  refine j_aload_n dJ0_getValue_0 rfl ?_
  refine j_get 0 dJ0_getValue_1 j_set_self in_J1 rfl (by decide) q288 rfl ?_
  refine j_aret dJ0_getValue_4 rfl (Or.inr ⟨_, rfl⟩) (Or.inr ⟨_, rfl⟩) (Nat.le_refl _) (Nat.le_refl _) ?_
  exact ⟨rfl, rfl, rfl, rfl⟩
set_option maxHeartbeats 4000000 in
theorem b_lenA {l : Launch} {D : va_G} {dT : Nat → ClassId} {H0 : Heap} {r : Nat → Nat} {h : j_H} {nx : Nat} {cp k : Nat} {f : Nat → Int32} : MC (gG l D dT H0) yJ0_length cJ0_length 1 (some .int) 0 0 0 [.ref (r 210)] r (j_set (j_set h 211 (byC dT cp f)) 210 (sbC (r 211) k)) nx (jq_i (nI k) r (j_set (j_set h 211 (byC dT cp f)) 210 (sbC (r 211) k)) nx) := by
  refine MC.ofJ [some (.ref (r 210))] rfl (Nat.le_of_ble_eq_true rfl) (by decide) ?_
  refine j_aload_n dJ0_length_0 rfl ?_
  refine j_get 3 dJ0_length_1 j_set_self in_J1 rfl (by decide) q291 rfl ?_
  refine j_iret dJ0_length_4 rfl rfl (Nat.le_refl _) (Nat.le_refl _) ?_
  exact ⟨rfl, rfl, rfl, rfl⟩
set_option maxHeartbeats 4000000 in
theorem b_len {l : Launch} {D : va_G} {dT : Nat → ClassId} {H0 : Heap} {r : Nat → Nat} {h : j_H} {nx : Nat} {cp k : Nat} {f : Nat → Int32} : MC (gG l D dT H0) yJ1_length cJ1_length 1 (some .int) 1 0 0 [.ref (r 210)] r (j_set (j_set h 211 (byC dT cp f)) 210 (sbC (r 211) k)) nx (jq_i (nI k) r (j_set (j_set h 211 (byC dT cp f)) 210 (sbC (r 211) k)) nx) := by
  refine MC.ofJ [some (.ref (r 210))] rfl (Nat.le_of_ble_eq_true rfl) (by decide) ?_
  refine j_aload_n dJ1_length_0 rfl ?_
  refine j_callUi b_lenA dJ1_length_1 pmJ0_length q421 q417 q300 q416 (by decide) j_set_self rfl rfl ⟨(Nat.le_of_ble_eq_true rfl), (Nat.le_of_ble_eq_true rfl)⟩ ⟨(Nat.le_of_ble_eq_true rfl), (Nat.le_of_ble_eq_true rfl)⟩ rfl (Nat.le_of_ble_eq_true rfl) ?_
  refine j_iret dJ1_length_4 rfl rfl (Nat.le_refl _) (Nat.le_refl _) ?_
  exact ⟨rfl, rfl, rfl, rfl⟩
set_option maxHeartbeats 4000000 in
theorem b_str2 {l : Launch} {D : va_G} {dT : Nat → ClassId} {H0 : Heap} {r : Nat → Nat} {h : j_H} {nx : Nat} {cp k : Nat} {f : Nat → Int32} (hk : k ≤ cp) (hcp : cp < 2 ^ 29) (hf : bfit f) (hrn : r 214 = nx) (h213 : h 213 = some strN) : MC (gG l D dT H0) yJ2_init_2 cJ2_init_2 5 none 3 1 k [.ref (r 213), .ref (r 210), .null] r (j_set (j_set h 211 (byC dT cp f)) 210 (sbC (r 211) k)) nx ((fun o r' h' nx' => o = .returned none ∧ r' = r ∧ nx' = nx + 1 ∧ ∃ g : Nat → Int32, (∀ j, j < k → g j = f j) ∧ h' = j_set (j_set (j_set (j_set h 211 (byC dT cp f)) 210 (sbC (r 211) k)) 214 (byC dT k g)) 213 (strC (r 214)))) := by
  refine MC.ofJ [some (.ref (r 213)), some (.ref (r 210)), some (.null), none, none] rfl (Nat.le_of_ble_eq_true rfl) (by decide) ?_
  refine j_aload_n dJ2_init_2_0 rfl ?_
  refine j_objInit dJ2_init_2_1 q409 q94 q95 (Nat.le_of_ble_eq_true rfl) (Nat.le_of_ble_eq_true rfl) ?_
  refine j_aload_n dJ2_init_2_4 rfl ?_
  refine j_callO b_getv jq_n.isR dJ2_init_2_5 pmJ0_getValue q410 q412 q411 q414 q411 q413 ⟨by decide, by decide, rfl⟩ j_set_self rfl rfl ⟨(Nat.le_of_ble_eq_true rfl), (Nat.le_of_ble_eq_true rfl)⟩ ⟨(Nat.le_of_ble_eq_true rfl), (by show 0 + 0 ≤ k; omega)⟩ rfl (Nat.le_of_ble_eq_true rfl) ?_
  rintro v r' h' nx' ⟨e1, e2, e3, e4⟩
  obtain rfl := e2.symm
  obtain rfl := e3.symm
  obtain rfl := e4.symm
  cases e1
  refine j_astore_n dJ2_init_2_8 (by decide) rfl ?_
  refine j_aload_n dJ2_init_2_9 rfl ?_
  refine j_callOi b_len  dJ2_init_2_10 pmJ1_length q415 q417 q416 q422 q419 q418 ⟨by decide, by decide, rfl⟩ j_set_self rfl rfl ⟨(Nat.le_of_ble_eq_true rfl), (Nat.le_of_ble_eq_true rfl)⟩ ⟨(Nat.le_of_ble_eq_true rfl), (by show 0 + 0 ≤ k; omega)⟩ rfl (Nat.le_of_ble_eq_true rfl) ?_
  refine j_istore dJ2_init_2_13 (by decide) rfl ?_
  refine j_aload_n dJ2_init_2_15 rfl ?_
  refine j_callOi b_latin  dJ2_init_2_16 pmJ0_isLatin1 q423 q346 q345 q348 q345 q347 ⟨by decide, by decide, rfl⟩ j_set_self rfl rfl ⟨(Nat.le_of_ble_eq_true rfl), (Nat.le_of_ble_eq_true rfl)⟩ ⟨(Nat.le_of_ble_eq_true rfl), (by show 0 + 0 ≤ k; omega)⟩ rfl (Nat.le_of_ble_eq_true rfl) ?_
  refine j_if_eq (tgt := 41) dJ2_init_2_19 (by decide) (fun c19 => absurd c19 (by decide)) (fun c19 => ?_)
  refine j_aload_n dJ2_init_2_22 rfl ?_
  refine j_iconst (v := 0) dJ2_init_2_23 (by decide) ?_
  refine j_putF 1 dJ2_init_2_24 (by rw [j_set_ne (by decide), j_set_ne (by decide)]; exact h213) in_J2 tyJ2_ok nmJ2 rfl (by decide) q448 rfl rfl rfl rfl rfl (by first | decide | simp) ?_
  refine j_re rfl rfl (h' := (j_set (j_set h 211 (byC dT cp f)) 210 (sbC (r 211) k))) (j_set_id (by rw [j_set_ne (by decide), j_set_ne (by decide)]; exact h213)) ?_
  refine j_aload_n dJ2_init_2_27 rfl ?_
  refine j_aload_n dJ2_init_2_28 rfl ?_
  refine j_iconst (v := 0) dJ2_init_2_29 (by decide) ?_
  refine j_iload dJ2_init_2_30 rfl ?_
  refine j_callS (b_cor hk hcp hf hrn) q_cor.isR dJ2_init_2_32 pmJ6_copyOfRange q424 q425 rfl ⟨Nat.le_of_ble_eq_true rfl, Nat.le_of_ble_eq_true rfl⟩ ⟨(Nat.le_of_ble_eq_true rfl), (by show 0 + 0 + 0 + 0 + k ≤ k; omega)⟩ rfl (Nat.le_of_ble_eq_true rfl) ?_
  rintro v r' h' nx' ⟨e1, e2, e4, g, hg, e3⟩
  obtain rfl := e2.symm
  obtain rfl := e3.symm
  obtain rfl := e4.symm
  cases e1
  refine j_putF 0 dJ2_init_2_35 (by rw [j_set_ne (by decide), j_set_ne (by decide), j_set_ne (by decide)]; exact h213) in_J2 tyJ2_ok nmJ2 rfl (by decide) q447 rfl rfl rfl rfl rfl (by first | decide | simp) ?_
  refine j_goto (tgt := 97) dJ2_init_2_38 (by decide) ?_
  refine j_vret dJ2_init_2_97 rfl (Nat.le_of_ble_eq_true rfl) (by show 0 + 0 + 0 + 0 + k ≤ k; omega) ?_
  exact ⟨rfl, rfl, rfl, g, hg, rfl⟩
set_option maxHeartbeats 4000000 in
theorem b_str1 {l : Launch} {D : va_G} {dT : Nat → ClassId} {H0 : Heap} {r : Nat → Nat} {h : j_H} {nx : Nat} {cp k : Nat} {f : Nat → Int32} (hk : k ≤ cp) (hcp : cp < 2 ^ 29) (hf : bfit f) (hrn : r 214 = nx) (h213 : h 213 = some strN) : MC (gG l D dT H0) yJ2_init cJ2_init 2 none 4 1 k [.ref (r 213), .ref (r 210)] r (j_set (j_set h 211 (byC dT cp f)) 210 (sbC (r 211) k)) nx ((fun o r' h' nx' => o = .returned none ∧ r' = r ∧ nx' = nx + 1 ∧ ∃ g : Nat → Int32, (∀ j, j < k → g j = f j) ∧ h' = j_set (j_set (j_set (j_set h 211 (byC dT cp f)) 210 (sbC (r 211) k)) 214 (byC dT k g)) 213 (strC (r 214)))) := by
  refine MC.ofJ [some (.ref (r 213)), some (.ref (r 210))] rfl (Nat.le_of_ble_eq_true rfl) (by decide) ?_
  refine j_aload_n dJ2_init_0 rfl ?_
  refine j_aload_n dJ2_init_1 rfl ?_
  refine j_null dJ2_init_2 ?_
  refine j_callI (b_str2 hk hcp hf hrn h213) (fun _ _ _ _ hq => ⟨_, hq.1⟩) dJ2_init_3 pmJ2_init_2 q406 q407 rfl rfl ⟨Nat.le_of_ble_eq_true rfl, Nat.le_of_ble_eq_true rfl⟩ ⟨(Nat.le_of_ble_eq_true rfl), (by show 0 + k ≤ k; omega)⟩ rfl (Nat.le_of_ble_eq_true rfl) ?_
  rintro v r' h' nx' ⟨e1, e2, e4, g, hg, e3⟩
  obtain rfl := e2.symm
  obtain rfl := e3.symm
  obtain rfl := e4.symm
  cases e1
  refine j_vret dJ2_init_6 rfl (Nat.le_of_ble_eq_true rfl) (by show 0 + k ≤ k; omega) ?_
  exact ⟨rfl, rfl, rfl, g, hg, rfl⟩
/-- the string lies under 213, its bytes under 214 -/
def q_ts (k : Nat) (f : Nat → Int32) (cp : Nat) (dT : Nat → ClassId) (r : Nat → Nat) (h : j_H) (nx : Nat) : j_Q := fun o r' h' nx' => o = .returned (some (.ref (r 213))) ∧ r' = r ∧ nx' = nx + 2 ∧ ∃ g : Nat → Int32, (∀ j, j < k → g j = f j) ∧ h' = j_set (j_set (j_set (j_set (j_set h 213 strN) 211 (byC dT cp f)) 210 (sbC (r 211) k)) 214 (byC dT k g)) 213 (strC (r 214))
theorem q_ts.isR {k : Nat} {f : Nat → Int32} {cp : Nat} {dT : Nat → ClassId} {r : Nat → Nat} {h : j_H} {nx : Nat} : j_isR (q_ts k f cp dT r h nx) := fun _ _ _ _ hq => ⟨_, hq.1⟩
set_option maxHeartbeats 4000000 in
theorem b_tos {l : Launch} {D : va_G} {dT : Nat → ClassId} {H0 : Heap} {r : Nat → Nat} {h : j_H} {nx : Nat} {cp k : Nat} {f : Nat → Int32} (hk : k ≤ cp) (hcp : cp < 2 ^ 29) (hf : bfit f) (hrn : r 213 = nx) (hrn2 : r 214 = nx + 1) : MC (gG l D dT H0) yJ1_toString cJ1_toString 1 (some (.object "java/lang/String")) 5 2 (4 + k) [.ref (r 210)] r (j_set (j_set h 211 (byC dT cp f)) 210 (sbC (r 211) k)) nx (q_ts k f cp dT r h nx) := by
  refine MC.ofJ [some (.ref (r 210))] rfl (Nat.le_of_ble_eq_true rfl) (by decide) ?_
  refine j_new (ci := 14) (fs := [.null, .int 0, .int 0, .int 0]) 213 hrn dJ1_toString_0 in_J2 tyJ2_ok rfl q401 q402 q68 (fun j hj => by
    have hj3 : j = 0 ∨ j = 1 ∨ j = 2 ∨ j = 3 := by have hj4 : j < 4 := hj; omega
    rcases hj3 with rfl | rfl | rfl | rfl <;> rfl) (Nat.le_of_ble_eq_true rfl) (by show 0 + 4 ≤ 4 + k; omega) ?_
  refine j_re rfl rfl (h' := (j_set (j_set (j_set h 213 strN) 211 (byC dT cp f)) 210 (sbC (r 211) k))) (by rw [j_set_comm _ _ _ (show (210 : Nat) ≠ 213 by decide), j_set_comm _ _ _ (show (211 : Nat) ≠ 213 by decide)]; rfl) ?_
  refine j_dup dJ1_toString_3 rfl ?_
  refine j_aload_n dJ1_toString_4 rfl ?_
  refine j_callI (b_str1 hk hcp hf hrn2 j_set_self) (fun _ _ _ _ hq => ⟨_, hq.1⟩) dJ1_toString_5 pmJ2_init q403 q404 rfl rfl ⟨Nat.le_of_ble_eq_true rfl, Nat.le_of_ble_eq_true rfl⟩ ⟨(Nat.le_of_ble_eq_true rfl), (by show 0 + 4 + k ≤ 4 + k; omega)⟩ rfl (Nat.le_of_ble_eq_true rfl) ?_
  rintro v r' h' nx' ⟨e1, e2, e4, g, hg, e3⟩
  obtain rfl := e2.symm
  obtain rfl := e3.symm
  obtain rfl := e4.symm
  cases e1
  refine j_aret dJ1_toString_8 rfl (Or.inl ⟨_, rfl⟩) (Or.inr ⟨_, rfl⟩) (Nat.le_of_ble_eq_true rfl) (by show 0 + 4 + k ≤ 4 + k; omega) ?_
  exact ⟨rfl, rfl, rfl, g, hg, rfl⟩
