set_option maxRecDepth 100000
/-! numbers -/
theorem nI_two : (2 : Int32) = nI 2 := rfl
theorem nI_d2 {a : Nat} (h : a < 2 ^ 31) : nI a / 2 = nI (a / 2) := pk_div (d := 2) h (by decide) (by decide)
theorem nI_r2 {a : Nat} (h : a < 2 ^ 31) : nI a - nI a / 2 * 2 = nI (a % 2) := pk_rem (d := 2) h (by decide) (by decide)
theorem nI_ne {a : Nat} (h0 : 0 < a) (h : a < 2 ^ 31) : ¬ nI a = 0 := nI_ne0 h0 h
theorem nI_inc (a : Nat) : nI a + Int32.ofInt 1 = nI (a + 1) := nI_1 a
theorem jr_t {c : Prop} [Decidable c] {r : Nat → Nat} {h : j_H} {nx : Nat} (hc : c) : jq_i (j_b c) r h nx (.returned (some (.int 1))) r h nx := ⟨by rw [j_b_t hc], rfl, rfl, rfl⟩
theorem jr_f {c : Prop} [Decidable c] {r : Nat → Nat} {h : j_H} {nx : Nat} (hc : ¬ c) : jq_i (j_b c) r h nx (.returned (some (.int 0))) r h nx := ⟨by rw [j_b_f hc], rfl, rfl, rfl⟩
theorem jr_i {v w : Int32} {r : Nat → Nat} {h : j_H} {nx : Nat} (e : w = v) : jq_i v r h nx (.returned (some (.int w))) r h nx := ⟨by rw [e], rfl, rfl, rfl⟩
theorem jr_v {r : Nat → Nat} {h h' : j_H} {nx : Nat} (e : h' = h) : jq_v r h nx (.returned none) r h' nx := ⟨rfl, rfl, e, rfl⟩

set_option maxHeartbeats 4000000 in
theorem c_X0_isIn {l : Launch} {D : va_G} {dT : Nat → ClassId} {H0 : Heap} {r : Nat → Nat} {h : j_H} {nx : Nat} (v a b : Int32) : MC (gG l D dT H0) yX0_isIn cX0_isIn 3 (some .boolean) 0 0 0 [.int v, .int a, .int b] r h nx (jq_i (j_b (a ≤ v ∧ v ≤ b)) r h nx) := by
  refine MC.ofJ [some (.int v), some (.int a), some (.int b)] rfl (Nat.le_of_ble_eq_true rfl) (by decide) ?_
  refine j_iload_n dX0_isIn_0 rfl ?_
  refine j_iload_n dX0_isIn_1 rfl ?_
  refine j_icmp_lt (tgt := 14) dX0_isIn_2 (by decide) (fun c2 => ?_) (fun c2 => ?_)
  · skip
    refine j_iconst (v := 0) dX0_isIn_14 (by decide) ?_
    refine j_iret dX0_isIn_15 rfl rfl (Nat.le_refl _) (Nat.le_refl _) ?_
    first | exact jr_f (by simp only [Int32.le_iff_toInt_le, Int32.lt_iff_toInt_lt] at *; omega) | exact jr_t (by simp only [Int32.le_iff_toInt_le, Int32.lt_iff_toInt_lt] at *; omega)
  · skip
    refine j_iload_n dX0_isIn_5 rfl ?_
    refine j_iload_n dX0_isIn_6 rfl ?_
    refine j_icmp_gt (tgt := 14) dX0_isIn_7 (by decide) (fun c7 => ?_) (fun c7 => ?_)
    · skip
      refine j_iconst (v := 0) dX0_isIn_14 (by decide) ?_
      refine j_iret dX0_isIn_15 rfl rfl (Nat.le_refl _) (Nat.le_refl _) ?_
      first | exact jr_f (by simp only [Int32.le_iff_toInt_le, Int32.lt_iff_toInt_lt] at *; omega) | exact jr_t (by simp only [Int32.le_iff_toInt_le, Int32.lt_iff_toInt_lt] at *; omega)
    · skip
      refine j_iconst (v := 1) dX0_isIn_10 (by decide) ?_
      refine j_goto (tgt := 15) dX0_isIn_11 (by decide) ?_
      refine j_iret dX0_isIn_15 rfl rfl (Nat.le_refl _) (Nat.le_refl _) ?_
      first | exact jr_f (by simp only [Int32.le_iff_toInt_le, Int32.lt_iff_toInt_lt] at *; omega) | exact jr_t (by simp only [Int32.le_iff_toInt_le, Int32.lt_iff_toInt_lt] at *; omega)
set_option maxHeartbeats 4000000 in
theorem c_X3_in {l : Launch} {D : va_G} {dT : Nat → ClassId} {H0 : Heap} {r : Nat → Nat} {h : j_H} {nx : Nat} (v a b : Int32) : MC (gG l D dT H0) yX3_in cX3_in 3 (some .boolean) 0 0 0 [.int v, .int a, .int b] r h nx (jq_i (j_b (a ≤ v ∧ v ≤ b)) r h nx) := by
  refine MC.ofJ [some (.int v), some (.int a), some (.int b)] rfl (Nat.le_of_ble_eq_true rfl) (by decide) ?_
  refine j_iload_n dX3_in_0 rfl ?_
  refine j_iload_n dX3_in_1 rfl ?_
  refine j_icmp_lt (tgt := 14) dX3_in_2 (by decide) (fun c2 => ?_) (fun c2 => ?_)
  · skip
    refine j_iconst (v := 0) dX3_in_14 (by decide) ?_
    refine j_iret dX3_in_15 rfl rfl (Nat.le_refl _) (Nat.le_refl _) ?_
    first | exact jr_f (by simp only [Int32.le_iff_toInt_le, Int32.lt_iff_toInt_lt] at *; omega) | exact jr_t (by simp only [Int32.le_iff_toInt_le, Int32.lt_iff_toInt_lt] at *; omega)
  · skip
    refine j_iload_n dX3_in_5 rfl ?_
    refine j_iload_n dX3_in_6 rfl ?_
    refine j_icmp_gt (tgt := 14) dX3_in_7 (by decide) (fun c7 => ?_) (fun c7 => ?_)
    · skip
      refine j_iconst (v := 0) dX3_in_14 (by decide) ?_
      refine j_iret dX3_in_15 rfl rfl (Nat.le_refl _) (Nat.le_refl _) ?_
      first | exact jr_f (by simp only [Int32.le_iff_toInt_le, Int32.lt_iff_toInt_lt] at *; omega) | exact jr_t (by simp only [Int32.le_iff_toInt_le, Int32.lt_iff_toInt_lt] at *; omega)
    · skip
      refine j_iconst (v := 1) dX3_in_10 (by decide) ?_
      refine j_goto (tgt := 15) dX3_in_11 (by decide) ?_
      refine j_iret dX3_in_15 rfl rfl (Nat.le_refl _) (Nat.le_refl _) ?_
      first | exact jr_f (by simp only [Int32.le_iff_toInt_le, Int32.lt_iff_toInt_lt] at *; omega) | exact jr_t (by simp only [Int32.le_iff_toInt_le, Int32.lt_iff_toInt_lt] at *; omega)
set_option maxHeartbeats 4000000 in
theorem c_X0_has {l : Launch} {D : va_G} {dT : Nat → ClassId} {H0 : Heap} {r : Nat → Nat} {h : j_H} {nx : Nat} (v k : Int32) : MC (gG l D dT H0) yX0_has cX0_has 2 (some .boolean) 0 0 0 [.int v, .int k] r h nx (jq_i (j_b (v >>> (k &&& 31) &&& 1 = 1)) r h nx) := by
  refine MC.ofJ [some (.int v), some (.int k)] rfl (Nat.le_of_ble_eq_true rfl) (by decide) ?_
  refine j_iload_n dX0_has_0 rfl ?_
  refine j_iload_n dX0_has_1 rfl ?_
  refine j_ishr dX0_has_2 ?_
  refine j_iconst (v := 1) dX0_has_3 (by decide) ?_
  refine j_iand dX0_has_4 ?_
  refine j_iconst (v := 1) dX0_has_5 (by decide) ?_
  refine j_icmp_ne (tgt := 13) dX0_has_6 (by decide) (fun c6 => ?_) (fun c6 => ?_)
  · skip
    refine j_iconst (v := 0) dX0_has_13 (by decide) ?_
    refine j_iret dX0_has_14 rfl rfl (Nat.le_refl _) (Nat.le_refl _) ?_
    first | exact jr_f (by assumption) | exact jr_t (by assumption)
  · skip
    refine j_iconst (v := 1) dX0_has_9 (by decide) ?_
    refine j_goto (tgt := 14) dX0_has_10 (by decide) ?_
    refine j_iret dX0_has_14 rfl rfl (Nat.le_refl _) (Nat.le_refl _) ?_
    first | exact jr_f (by assumption) | exact jr_t (by assumption)
set_option maxHeartbeats 4000000 in
theorem c_X3_has {l : Launch} {D : va_G} {dT : Nat → ClassId} {H0 : Heap} {r : Nat → Nat} {h : j_H} {nx : Nat} (v k : Int32) : MC (gG l D dT H0) yX3_has cX3_has 2 (some .boolean) 0 0 0 [.int v, .int k] r h nx (jq_i (j_b (v >>> (k &&& 31) &&& 1 = 1)) r h nx) := by
  refine MC.ofJ [some (.int v), some (.int k)] rfl (Nat.le_of_ble_eq_true rfl) (by decide) ?_
  refine j_iload_n dX3_has_0 rfl ?_
  refine j_iload_n dX3_has_1 rfl ?_
  refine j_ishr dX3_has_2 ?_
  refine j_iconst (v := 1) dX3_has_3 (by decide) ?_
  refine j_iand dX3_has_4 ?_
  refine j_iconst (v := 1) dX3_has_5 (by decide) ?_
  refine j_icmp_ne (tgt := 13) dX3_has_6 (by decide) (fun c6 => ?_) (fun c6 => ?_)
  · skip
    refine j_iconst (v := 0) dX3_has_13 (by decide) ?_
    refine j_iret dX3_has_14 rfl rfl (Nat.le_refl _) (Nat.le_refl _) ?_
    first | exact jr_f (by assumption) | exact jr_t (by assumption)
  · skip
    refine j_iconst (v := 1) dX3_has_9 (by decide) ?_
    refine j_goto (tgt := 14) dX3_has_10 (by decide) ?_
    refine j_iret dX3_has_14 rfl rfl (Nat.le_refl _) (Nat.le_refl _) ?_
    first | exact jr_f (by assumption) | exact jr_t (by assumption)
set_option maxHeartbeats 4000000 in
theorem c_rangeCheck {l : Launch} {D : va_G} {dT : Nat → ClassId} {H0 : Heap} {r : Nat → Nat} {h : j_H} {nx : Nat} (n a b : Nat) (h1 : a ≤ b) (h2 : b ≤ n) (hn : n < 2 ^ 31) : MC (gG l D dT H0) yJ6_rangeCheck cJ6_rangeCheck 3 none 0 0 0 [.int (nI n), .int (nI a), .int (nI b)] r h nx (jq_v r h nx) := by
  refine MC.ofJ [some (.int (nI n)), some (.int (nI a)), some (.int (nI b))] rfl (Nat.le_of_ble_eq_true rfl) (by decide) ?_
  refine j_iload_n dJ6_rangeCheck_0 rfl ?_
  refine j_iload_n dJ6_rangeCheck_1 rfl ?_
  refine j_icmp_le (tgt := 46) dJ6_rangeCheck_2 (by decide) (fun c2 => ?_) (fun c2 => absurd (nI_le h1 (by omega)) c2)
  refine j_iload_n dJ6_rangeCheck_46 rfl ?_
  refine j_if_ge (tgt := 59) dJ6_rangeCheck_47 (by decide) (fun c47 => ?_) (fun c47 => absurd (nI_pos' (by omega)) c47)
  refine j_iload_n dJ6_rangeCheck_59 rfl ?_
  refine j_iload_n dJ6_rangeCheck_60 rfl ?_
  refine j_icmp_le (tgt := 73) dJ6_rangeCheck_61 (by decide) (fun c61 => ?_) (fun c61 => absurd (nI_le h2 (by omega)) c61)
  refine j_vret dJ6_rangeCheck_73 rfl (Nat.le_refl _) (Nat.le_refl _) ?_
  exact jr_v rfl
set_option maxHeartbeats 4000000 in
theorem c_fill {l : Launch} {D : va_G} {dT : Nat → ClassId} {H0 : Heap} {r : Nat → Nat} {h : j_H} {nx : Nat} (i n a b : Nat) (v : Int32) (f : Nat → Int32) (hi : h i = some (.inl (dT 0, n, .inl f))) (h1 : a ≤ b) (h2 : b ≤ n) (hn : n < 2 ^ 31) : MC (gG l D dT H0) yJ6_fill cJ6_fill 5 none 1 0 0 [.ref (r i), .int (nI a), .int (nI b), .int v] r h nx (jq_v r (j_ov h [(i, .inl (dT 0, n, .inl (fun j => if a ≤ j ∧ j < b then v else f j)))]) nx) := by
  refine MC.ofJ [some (.ref (r i)), some (.int (nI a)), some (.int (nI b)), some (.int v), none] rfl (Nat.le_of_ble_eq_true rfl) (by decide) ?_
  refine j_aload_n dJ6_fill_0 rfl ?_
  refine j_alen 0 dJ6_fill_1 (by first | rfl | assumption) rfl ?_
  refine j_iload_n dJ6_fill_2 rfl ?_
  refine j_iload_n dJ6_fill_3 rfl ?_
  refine j_callSv (c_rangeCheck n a b h1 h2 hn) dJ6_fill_4 pmJ6_rangeCheck q935 q936 rfl ⟨Nat.le_of_ble_eq_true rfl, Nat.le_of_ble_eq_true rfl⟩ ⟨Nat.le_of_ble_eq_true rfl, Nat.le_of_ble_eq_true rfl⟩ rfl (Nat.le_of_ble_eq_true rfl) ?_
  refine j_iload_n dJ6_fill_7 rfl ?_
  refine j_istore dJ6_fill_8 (by decide) rfl ?_
  refine j_ov1 hi ?_
  refine j_lp2 (fun (k : Nat) (g : Nat → Int32) => j_ov h [(i, .inl (dT 0, n, .inl g))]) (fun k _ => [some (.ref (r i)), some (.int (nI a)), some (.int (nI b)), some (.int v), some (.int (nI k))]) (fun k g => a ≤ k ∧ k ≤ b ∧ ∀ j, g j = if a ≤ j ∧ j < k then v else f j) (fun k _ => b - k) ?_ a f ⟨Nat.le_refl _, h1, fun j => by rw [if_neg (by omega)]⟩
  intro k g ⟨hk1, hk2, hg⟩ ih
  refine j_iload dJ6_fill_10 rfl ?_
  refine j_iload_n dJ6_fill_12 rfl ?_
  refine j_icmp_ge (tgt := 27) dJ6_fill_13 (by decide) (fun c13 => ?_) (fun c13 => ?_)
  · have hkb : k = b := by
      have := (nI_leI (by omega) (by omega)).mp c13
      omega
    refine j_vret dJ6_fill_27 rfl (Nat.le_refl _) (Nat.le_refl _) (jr_v ?_)
    congr
    funext j
    rw [hg j, hkb]
  · have hkb : k < b := Nat.lt_of_not_le (fun q => c13 (nI_le q (by omega)))
    refine j_aload_n dJ6_fill_16 rfl ?_
    refine j_iload dJ6_fill_17 rfl ?_
    refine j_iload_n dJ6_fill_19 rfl ?_
    refine j_iast 0 k dJ6_fill_20 (by simp [j_ov]; rfl) rfl rfl (by omega) hn ?_
    refine j_ovs ?_
    refine j_iinc dJ6_fill_21 rfl (by decide) rfl ?_
    refine j_goto (tgt := 10) dJ6_fill_24 (by decide) ?_
    refine j_re (by rw [nI_inc]; rfl) rfl (by rw [j_upd, j_beq_t rfl]; rfl) (ih (k + 1) (upd g k v) ⟨by omega, by omega, fun j => ?_⟩ (by omega))
    by_cases hj : j = k
    · subst hj
      rw [pk_us, if_pos (by omega)]
    · rw [pk_un hj, hg j]
      by_cases hj2 : a ≤ j ∧ j < k
      · rw [if_pos hj2, if_pos (by omega)]
      · rw [if_neg hj2, if_neg (by omega)]
set_option maxHeartbeats 4000000 in
theorem c_fill_3 {l : Launch} {D : va_G} {dT : Nat → ClassId} {H0 : Heap} {r : Nat → Nat} {h : j_H} {nx : Nat} (i n a b : Nat) (v : Int32) (f : Nat → Int32) (hi : h i = some (.inl (dT 2, n, .inl f))) (h1 : a ≤ b) (h2 : b ≤ n) (hn : n < 2 ^ 31) : MC (gG l D dT H0) yJ6_fill_3 cJ6_fill_3 5 none 1 0 0 [.ref (r i), .int (nI a), .int (nI b), .int v] r h nx (jq_v r (j_ov h [(i, .inl (dT 2, n, .inl (fun j => if a ≤ j ∧ j < b then (vp_nar .boolean v) else f j)))]) nx) := by
  refine MC.ofJ [some (.ref (r i)), some (.int (nI a)), some (.int (nI b)), some (.int v), none] rfl (Nat.le_of_ble_eq_true rfl) (by decide) ?_
  refine j_aload_n dJ6_fill_3_0 rfl ?_
  refine j_alen 2 dJ6_fill_3_1 (by first | rfl | assumption) rfl ?_
  refine j_iload_n dJ6_fill_3_2 rfl ?_
  refine j_iload_n dJ6_fill_3_3 rfl ?_
  refine j_callSv (c_rangeCheck n a b h1 h2 hn) dJ6_fill_3_4 pmJ6_rangeCheck q935 q936 rfl ⟨Nat.le_of_ble_eq_true rfl, Nat.le_of_ble_eq_true rfl⟩ ⟨Nat.le_of_ble_eq_true rfl, Nat.le_of_ble_eq_true rfl⟩ rfl (Nat.le_of_ble_eq_true rfl) ?_
  refine j_iload_n dJ6_fill_3_7 rfl ?_
  refine j_istore dJ6_fill_3_8 (by decide) rfl ?_
  refine j_ov1 hi ?_
  refine j_lp2 (fun (k : Nat) (g : Nat → Int32) => j_ov h [(i, .inl (dT 2, n, .inl g))]) (fun k _ => [some (.ref (r i)), some (.int (nI a)), some (.int (nI b)), some (.int v), some (.int (nI k))]) (fun k g => a ≤ k ∧ k ≤ b ∧ ∀ j, g j = if a ≤ j ∧ j < k then (vp_nar .boolean v) else f j) (fun k _ => b - k) ?_ a f ⟨Nat.le_refl _, h1, fun j => by rw [if_neg (by omega)]⟩
  intro k g ⟨hk1, hk2, hg⟩ ih
  refine j_iload dJ6_fill_3_10 rfl ?_
  refine j_iload_n dJ6_fill_3_12 rfl ?_
  refine j_icmp_ge (tgt := 27) dJ6_fill_3_13 (by decide) (fun c13 => ?_) (fun c13 => ?_)
  · have hkb : k = b := by
      have := (nI_leI (by omega) (by omega)).mp c13
      omega
    refine j_vret dJ6_fill_3_27 rfl (Nat.le_refl _) (Nat.le_refl _) (jr_v ?_)
    congr
    funext j
    rw [hg j, hkb]
  · have hkb : k < b := Nat.lt_of_not_le (fun q => c13 (nI_le q (by omega)))
    refine j_aload_n dJ6_fill_3_16 rfl ?_
    refine j_iload dJ6_fill_3_17 rfl ?_
    refine j_iload_n dJ6_fill_3_19 rfl ?_
    refine j_zast 2 k dJ6_fill_3_20 (by simp [j_ov]; rfl) rfl rfl (by omega) hn ?_
    refine j_ovs ?_
    refine j_iinc dJ6_fill_3_21 rfl (by decide) rfl ?_
    refine j_goto (tgt := 10) dJ6_fill_3_24 (by decide) ?_
    refine j_re (by rw [nI_inc]; rfl) rfl (by rw [j_upd, j_beq_t rfl]; rfl) (ih (k + 1) (upd g k (vp_nar .boolean v)) ⟨by omega, by omega, fun j => ?_⟩ (by omega))
    by_cases hj : j = k
    · subst hj
      rw [pk_us, if_pos (by omega)]
    · rw [pk_un hj, hg j]
      by_cases hj2 : a ≤ j ∧ j < k
      · rw [if_pos hj2, if_pos (by omega)]
      · rw [if_neg hj2, if_neg (by omega)]
