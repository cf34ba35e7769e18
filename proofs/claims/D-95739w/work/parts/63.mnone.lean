set_option maxRecDepth 100000
/-- the byte that comes k-th from behind, as the model lays it -/
def mbyte (b : Int64) (k : Nat) : Int32 := (b >>> ((8 * nI k).toInt64 &&& 63) &&& 255).toInt32
def mtext (b : Int64) (n z : Nat) (f : Nat → Int32) : Nat → Int32 := fun j => if z ≤ j ∧ j < z + n then mbyte b (n - 1 - (j - z)) else f j
set_option maxHeartbeats 4000000 in
theorem m_feedo {l : Launch} {D : va_G} {dT : Nat → ClassId} {H0 : Heap} {r : Nat → Nat} {nx : Nat} {g : j_H} {kI : Int32} {bs fg m nk w x s t : Nat} {F : Nat → Nat} {tk : Int64} {V : Nat → Nat → Int32} (v : Int32) (b : Int64) (hv : ¬ (1 ≤ v ∧ v ≤ 8)) : MC (gG l D dT H0) yX3_feed cX3_feed 5 (some .int) 1 0 0 [.ref (r 100), .int v, .long b] r (mdS r dT g kI bs fg m nk w x s t F tk V) nx (jq_i (-1000000002) r (mdS r dT g kI bs fg m nk w x s t F tk V) nx) := by
  refine MC.ofJ [some (.ref (r 100)), some (.int v), some (.long b), none, none] rfl (Nat.le_of_ble_eq_true rfl) (by decide) ?_
  refine j_iload_n dX3_feed_0 rfl ?_
  refine j_iconst (v := 1) dX3_feed_1 (by decide) ?_
  refine j_bipush (v := 8) dX3_feed_2 (by decide) ?_
  refine j_callSi (c_X3_in _ _ _) dX3_feed_4 pmX3_in q1228 q1229 rfl ⟨Nat.le_of_ble_eq_true rfl, Nat.le_of_ble_eq_true rfl⟩ ⟨Nat.le_of_ble_eq_true rfl, Nat.le_of_ble_eq_true rfl⟩ rfl (Nat.le_of_ble_eq_true rfl) ?_
  refine j_ifb_ne (tgt := 13) dX3_feed_7 (by decide) (fun c7 => absurd c7 hv) (fun c7 => ?_)
  refine j_ldc dX3_feed_10 q1231 ?_
  refine j_iret dX3_feed_12 rfl rfl (Nat.le_refl _) (Nat.le_refl _) ?_
  exact ⟨rfl, rfl, rfl, rfl⟩
set_option maxHeartbeats 4000000 in
theorem m_feedf {l : Launch} {D : va_G} {dT : Nat → ClassId} {H0 : Heap} {r : Nat → Nat} {nx : Nat} {g : j_H} {kI : Int32} {bs fg m nk w x s t : Nat} {F : Nat → Nat} {tk : Int64} {V : Nat → Nat → Int32} (n : Nat) (hn : 1 ≤ n ∧ n ≤ 8) (b : Int64) (hf : 400 < F 6 + n) (hz : F 6 ≤ 400) : MC (gG l D dT H0) yX3_feed cX3_feed 5 (some .int) 1 0 0 [.ref (r 100), .int (nI n), .long b] r (mdS r dT g kI bs fg m nk w x s t F tk V) nx (jq_i (-1000000004) r (mdS r dT g kI bs fg m nk w x s t F tk V) nx) := by
  refine MC.ofJ [some (.ref (r 100)), some (.int (nI n)), some (.long b), none, none] rfl (Nat.le_of_ble_eq_true rfl) (by decide) ?_
  refine j_iload_n dX3_feed_0 rfl ?_
  refine j_iconst (v := 1) dX3_feed_1 (by decide) ?_
  refine j_bipush (v := 8) dX3_feed_2 (by decide) ?_
  refine j_callSi (c_X3_in _ _ _) dX3_feed_4 pmX3_in q1228 q1229 rfl ⟨Nat.le_of_ble_eq_true rfl, Nat.le_of_ble_eq_true rfl⟩ ⟨Nat.le_of_ble_eq_true rfl, Nat.le_of_ble_eq_true rfl⟩ rfl (Nat.le_of_ble_eq_true rfl) ?_
  refine j_ifb_ne (tgt := 13) dX3_feed_7 (by decide) (fun c7 => ?_) (fun c7 => absurd ⟨nI_le (a := 1) hn.1 (by omega), nI_le (b := 8) hn.2 (by decide)⟩ c7)
  refine j_aload_n dX3_feed_13 rfl ?_
  refine j_get 6 dX3_feed_14 (by first | rfl | assumption) in_X3 rfl (by decide) q1105 rfl ?_
  refine j_iload_n dX3_feed_17 rfl ?_
  refine j_iadd dX3_feed_18 ?_
  refine j_eqi (nI_add _ _) ?_
  refine j_sipush (v := 400) dX3_feed_19 (by decide) ?_
  refine j_icmp_le (tgt := 28) dX3_feed_22 (by decide) (fun c22 => absurd c22 (fun q => by have := (nI_leI (by omega) (by decide)).mp (show nI (F 6 + n) ≤ nI 400 from q); omega)) (fun c22 => ?_)
  refine j_ldc dX3_feed_25 q1232 ?_
  refine j_iret dX3_feed_27 rfl rfl (Nat.le_refl _) (Nat.le_refl _) ?_
  exact ⟨rfl, rfl, rfl, rfl⟩
set_option maxHeartbeats 4000000 in
theorem m_feed1 {l : Launch} {D : va_G} {dT : Nat → ClassId} {H0 : Heap} {r : Nat → Nat} {nx : Nat} {g : j_H} {kI : Int32} {bs fg m nk w x s t : Nat} {F : Nat → Nat} {tk : Int64} {V : Nat → Nat → Int32} (n : Nat) (hn : 1 ≤ n ∧ n ≤ 8) (b : Int64) (hf : F 6 + n ≤ 400) : MC (gG l D dT H0) yX3_feed cX3_feed 5 (some .int) 1 0 0 [.ref (r 100), .int (nI n), .long b] r (mdS r dT g kI bs fg m nk w x s t F tk V) nx (jq_i (nI (F 6 + n)) r (mdS r dT g kI bs fg m nk w x s t (va_up F 6 (F 6 + n)) tk (vo V [(102, (mtext b n (F 6) (V 102)))])) nx) := by
  refine MC.ofJ [some (.ref (r 100)), some (.int (nI n)), some (.long b), none, none] rfl (Nat.le_of_ble_eq_true rfl) (by decide) ?_
  refine j_iload_n dX3_feed_0 rfl ?_
  refine j_iconst (v := 1) dX3_feed_1 (by decide) ?_
  refine j_bipush (v := 8) dX3_feed_2 (by decide) ?_
  refine j_callSi (c_X3_in _ _ _) dX3_feed_4 pmX3_in q1228 q1229 rfl ⟨Nat.le_of_ble_eq_true rfl, Nat.le_of_ble_eq_true rfl⟩ ⟨Nat.le_of_ble_eq_true rfl, Nat.le_of_ble_eq_true rfl⟩ rfl (Nat.le_of_ble_eq_true rfl) ?_
  refine j_ifb_ne (tgt := 13) dX3_feed_7 (by decide) (fun c7 => ?_) (fun c7 => absurd ⟨nI_le (a := 1) hn.1 (by omega), nI_le (b := 8) hn.2 (by decide)⟩ c7)
  refine j_aload_n dX3_feed_13 rfl ?_
  refine j_get 6 dX3_feed_14 (by first | rfl | assumption) in_X3 rfl (by decide) q1105 rfl ?_
  refine j_iload_n dX3_feed_17 rfl ?_
  refine j_iadd dX3_feed_18 ?_
  refine j_eqi (nI_add _ _) ?_
  refine j_sipush (v := 400) dX3_feed_19 (by decide) ?_
  refine j_icmp_le (tgt := 28) dX3_feed_22 (by decide) (fun c22 => ?_) (fun c22 => absurd (show nI (F 6 + n) ≤ nI 400 from nI_le hf (by decide)) c22)
  refine j_iconst (v := 0) dX3_feed_28 (by decide) ?_
  refine j_istore dX3_feed_29 (by decide) rfl ?_
  refine j_re rfl rfl (h' := (mdS r dT g kI bs fg m nk w x s t F tk (vo V [(102, (V 102))]))) (by rw [vo_same _ (by simp)]) ?_
  refine j_less (L' := [some (.ref (r 100)), some (.int (nI n)), some (.long b), none, some (.int (nI 0))]) ⟨Or.inr rfl, Or.inr rfl, Or.inr rfl, Or.inl rfl, Or.inr rfl, trivial⟩ ?_
  refine j_lp2 (fun (i : Nat) (f : Nat → Int32) => (mdS r dT g kI bs fg m nk w x s t F tk (vo V [(102, f)]))) (fun i _ => [some (.ref (r 100)), some (.int (nI n)), some (.long b), none, some (.int (nI i))]) (fun i f => i ≤ n ∧ ∀ j, f j = if F 6 ≤ j ∧ j < F 6 + i then mbyte b (n - 1 - (j - F 6)) else V 102 j) (fun i _ => n - i) ?_ 0 (V 102) ⟨Nat.zero_le _, fun j => by rw [if_neg (by omega)]⟩
  intro i f ⟨hi, hfj⟩ ih
  refine j_iload dX3_feed_31 rfl ?_
  refine j_iload_n dX3_feed_33 rfl ?_
  refine j_icmp_ge (tgt := 71) dX3_feed_34 (by decide) (fun c34 => ?_) (fun c34 => ?_)
  · skip
    have hin : i = n := by
      have := (nI_leI (by omega) (by omega)).mp c34
      omega
    subst hin
    have hfe : f = mtext b i (F 6) (V 102) := funext (fun j => hfj j)
    subst hfe
    refine j_aload_n dX3_feed_71 rfl ?_
    refine j_dup dX3_feed_72 rfl ?_
    refine j_get 6 dX3_feed_73 (by first | rfl | assumption) in_X3 rfl (by decide) q1105 rfl ?_
    refine j_iload_n dX3_feed_76 rfl ?_
    refine j_iadd dX3_feed_77 ?_
    refine j_eqi (nI_add _ _) ?_
    refine j_put 6 dX3_feed_78 (by first | rfl | assumption) in_X3 tyX3_ok nmX3 rfl (by decide) q1105 rfl rfl rfl (by first | decide | simp) ?_
    refine j_mdF (q := 6) (v := F 6 + i) (by decide) rfl ?_
    refine j_aload_n dX3_feed_81 rfl ?_
    refine j_get 6 dX3_feed_82 (by first | rfl | assumption) in_X3 rfl (by decide) q1105 rfl ?_
    refine j_iret dX3_feed_85 rfl rfl (Nat.le_refl _) (Nat.le_refl _) ?_
    exact jr_i rfl
  · skip
    have hin : i < n := Nat.lt_of_not_le (fun q => c34 (nI_le q (by omega)))
    refine j_aload_n dX3_feed_37 rfl ?_
    refine j_get 7 dX3_feed_38 (by first | rfl | assumption) in_X3 rfl (by decide) q1106 rfl ?_
    refine j_aload_n dX3_feed_41 rfl ?_
    refine j_get 6 dX3_feed_42 (by first | rfl | assumption) in_X3 rfl (by decide) q1105 rfl ?_
    refine j_iload dX3_feed_45 rfl ?_
    refine j_iadd dX3_feed_47 ?_
    refine j_eqi (nI_add _ _) ?_
    refine j_lload_n dX3_feed_48 rfl ?_
    refine j_bipush (v := 8) dX3_feed_49 (by decide) ?_
    refine j_iload_n dX3_feed_51 rfl ?_
    refine j_iconst (v := 1) dX3_feed_52 (by decide) ?_
    refine j_isub dX3_feed_53 ?_
    refine j_iload dX3_feed_54 rfl ?_
    refine j_isub dX3_feed_56 ?_
    refine j_eqi (show _ = nI (n - 1 - i) by rw [show (1 : Int32) = nI 1 from rfl, nI_sub (by omega), nI_sub (by omega)]) ?_
    refine j_imul dX3_feed_57 ?_
    refine j_lshr dX3_feed_58 ?_
    refine j_ldc2 dX3_feed_59 q1233 ?_
    refine j_land dX3_feed_62 ?_
    refine j_l2i dX3_feed_63 ?_
    refine j_eqi (show _ = mbyte b (n - 1 - i) from rfl) ?_
    refine j_iast 0 (F 6 + i) dX3_feed_64 (by first | rfl | assumption) rfl rfl (by show F 6 + i < 400; omega) (by decide) ?_
    refine j_mdW (f := _) (by decide) (by decide) rfl ?_
    refine j_iinc dX3_feed_65 rfl (by decide) rfl ?_
    refine j_goto (tgt := 31) dX3_feed_68 (by decide) ?_
    refine j_less (L' := [some (.ref (r 100)), some (.int (nI n)), some (.long b), none, some (.int (nI (i + 1)))]) ⟨Or.inr rfl, Or.inr rfl, Or.inr rfl, Or.inl rfl, Or.inr (by rw [← nI_inc]), trivial⟩ ?_
    refine ih (i + 1) _ ⟨by omega, fun j => ?_⟩ (by omega)
    by_cases hj : j = F 6 + i
    · subst hj
      rw [pk_us, if_pos (by omega), show n - 1 - (F 6 + i - F 6) = n - 1 - i by omega]
    · rw [pk_un hj, show vo V [(102, f)] 102 j = f j from rfl, hfj j]
      by_cases hj2 : F 6 ≤ j ∧ j < F 6 + i
      · rw [if_pos hj2, if_pos (by omega)]
      · rw [if_neg hj2, if_neg (by omega)]
set_option maxHeartbeats 4000000 in
theorem m_setState0 {l : Launch} {D : va_G} {dT : Nat → ClassId} {H0 : Heap} {r : Nat → Nat} {nx : Nat} {g : j_H} {kI : Int32} {bs fg : Nat} {F : Nat → Nat} {tk : Int64} {V : Nat → Nat → Int32}  : MC (gG l D dT H0) yX3_setState cX3_setState 2 none 0 0 0 [.ref (r 100), .int (nI 0)] r (mdS r dT g kI bs fg 0 0 0 0 0 0 F tk V) nx (jq_v r (mdS r dT g kI bs fg 0 0 0 0 0 0 F tk V) nx) := by
  refine MC.ofJ [some (.ref (r 100)), some (.int (nI 0))] rfl (Nat.le_of_ble_eq_true rfl) (by decide) ?_
  refine j_aload_n dX3_setState_0 rfl ?_
  refine j_join (tgt := 13) (fun z => z = 0) (fun v1 hv1 => ?_) (fun kj1 => ?_)
  · skip
    subst hv1
    refine j_put 24 dX3_setState_13 (by first | rfl | assumption) in_X3 tyX3_ok nmX3 rfl (by decide) q1123 rfl rfl rfl (by first | decide | simp) ?_
    refine j_mdA (w' := 0) (x' := 0) (s' := 0) (t' := 0) rfl ?_
    refine j_aload_n dX3_setState_16 rfl ?_
    refine j_aload_n dX3_setState_17 rfl ?_
    refine j_get 3 dX3_setState_18 (by first | rfl | assumption) in_X3 rfl (by decide) q1102 rfl ?_
    refine j_if_ne (tgt := 28) dX3_setState_21 (by decide) (fun c21 => absurd rfl c21) (fun c21 => ?_)
    refine j_iconst (v := 0) dX3_setState_24 (by decide) ?_
    refine j_goto (tgt := 36) dX3_setState_25 (by decide) ?_
    refine j_put 23 dX3_setState_36 (by first | rfl | assumption) in_X3 tyX3_ok nmX3 rfl (by decide) q1122 rfl rfl rfl (by first | decide | simp) ?_
    refine j_mdA (w' := 0) (x' := 0) (s' := 0) (t' := 0) rfl ?_
    refine j_aload_n dX3_setState_39 rfl ?_
    refine j_aload_n dX3_setState_40 rfl ?_
    refine j_get 3 dX3_setState_41 (by first | rfl | assumption) in_X3 rfl (by decide) q1102 rfl ?_
    refine j_if_ne (tgt := 51) dX3_setState_44 (by decide) (fun c44 => absurd rfl c44) (fun c44 => ?_)
    refine j_iconst (v := 0) dX3_setState_47 (by decide) ?_
    refine j_goto (tgt := 61) dX3_setState_48 (by decide) ?_
    refine j_put 22 dX3_setState_61 (by first | rfl | assumption) in_X3 tyX3_ok nmX3 rfl (by decide) q1121 rfl rfl rfl (by first | decide | simp) ?_
    refine j_mdA (w' := 0) (x' := 0) (s' := 0) (t' := 0) rfl ?_
    refine j_aload_n dX3_setState_64 rfl ?_
    refine j_aload_n dX3_setState_65 rfl ?_
    refine j_get 3 dX3_setState_66 (by first | rfl | assumption) in_X3 rfl (by decide) q1102 rfl ?_
    refine j_if_ne (tgt := 76) dX3_setState_69 (by decide) (fun c69 => absurd rfl c69) (fun c69 => ?_)
    refine j_iconst (v := 0) dX3_setState_72 (by decide) ?_
    refine j_goto (tgt := 85) dX3_setState_73 (by decide) ?_
    refine j_put 21 dX3_setState_85 (by first | rfl | assumption) in_X3 tyX3_ok nmX3 rfl (by decide) q1120 rfl rfl rfl (by first | decide | simp) ?_
    refine j_mdA (w' := 0) (x' := 0) (s' := 0) (t' := 0) rfl ?_
    refine j_vret dX3_setState_88 rfl (Nat.le_refl _) (Nat.le_refl _) ?_
    exact jr_v rfl
  · skip
    refine j_iload_n dX3_setState_1 rfl ?_
    refine j_iconst (v := 2) dX3_setState_2 (by decide) ?_
    refine j_irem dX3_setState_3 (by decide) ?_
    refine j_eqi (show _ = (0 : Int32) by decide) ?_
    refine j_iconst (v := 1) dX3_setState_4 (by decide) ?_
    refine j_icmp_ne (tgt := 12) dX3_setState_5 (by decide) (fun c5 => ?_) (fun c5 => absurd c5 (by decide))
    have hj : (0 : Int32) = 0 := rfl
    refine j_iconst (v := 0) dX3_setState_12 (by decide) ?_
    exact kj1 _ hj
def q_m0 (r : Nat → Nat) (dT : Nat → ClassId) (g : j_H) (kI : Int32) (bs fg : Nat) (F : Nat → Nat) (tk : Int64) (V : Nat → Nat → Int32) (nx : Nat) : j_Q := fun o r' h' nx' => o = .returned none ∧ r' = r ∧ nx' = nx ∧ ∃ V' : Nat → Nat → Int32, h' = (mdS r dT g kI bs fg 0 0 0 0 0 0 F tk V') ∧ ∀ k, ¬ isMs k → V' k = V k
theorem q_m0.isR {r : Nat → Nat} {dT : Nat → ClassId} {g : j_H} {kI : Int32} {bs fg : Nat} {F : Nat → Nat} {tk : Int64} {V : Nat → Nat → Int32} {nx : Nat} : j_isR (q_m0 r dT g kI bs fg F tk V nx) := fun _ _ _ _ hq => ⟨_, hq.1⟩
set_option maxHeartbeats 4000000 in
theorem m_layFewest0 {l : Launch} {D : va_G} {dT : Nat → ClassId} {H0 : Heap} {r : Nat → Nat} {nx : Nat} {g : j_H} {kI : Int32} {bs fg : Nat} {F : Nat → Nat} {tk : Int64} {V : Nat → Nat → Int32} (K : Int32) : MC (gG l D dT H0) yX3_layFewest cX3_layFewest 9 none 5 0 0 [.ref (r 100), .int K] r (mdS r dT g kI bs fg 0 0 0 0 0 0 F tk V) nx (q_m0 r dT g kI bs fg F tk V nx) := by
  refine MC.ofJ [some (.ref (r 100)), some (.int K), none, none, none, none, none, none, none] rfl (Nat.le_of_ble_eq_true rfl) (by decide) ?_
  refine j_re rfl rfl (h' := (mdS r dT g kI bs fg 0 0 0 0 0 0 F tk (vo V [(113, V 113)]))) (by rw [vo_same _ (by simp)]) ?_
  refine j_iconst (v := 0) dX3_layFewest_0 (by decide) ?_
  refine j_istore_n dX3_layFewest_1 (by decide) rfl ?_
  refine j_less (L' := [some (.ref (r 100)), some (.int K), some (.int (nI 0)), none, none, none, none, none, none]) ⟨Or.inr rfl, Or.inr rfl, Or.inr rfl, Or.inl rfl, Or.inl rfl, Or.inl rfl, Or.inl rfl, Or.inl rfl, Or.inl rfl, trivial⟩ ?_
  refine j_lp2 (fun (k : Nat) (fw : Nat → Int32) => (mdS r dT g kI bs fg 0 0 0 0 0 0 F tk (vo V [(113, fw)]))) (fun k _ => [some (.ref (r 100)), some (.int K), some (.int (nI k)), none, none, none, none, none, none]) (fun k _ => k ≤ 100) (fun k _ => 100 - k) ?_ 0 (V 113) (Nat.zero_le _)
  intro k fw hk ih
  refine j_iload_n dX3_layFewest_2 rfl ?_
  refine j_bipush (v := 100) dX3_layFewest_3 (by decide) ?_
  refine j_icmp_ge (tgt := 21) dX3_layFewest_5 (by decide) (fun c5 => ?_) (fun c5 => ?_)
  · skip
    refine j_aload_n dX3_layFewest_21 rfl ?_
    refine j_get 3 dX3_layFewest_22 (by first | rfl | assumption) in_X3 rfl (by decide) q1102 rfl ?_
    refine j_if_ne (tgt := 29) dX3_layFewest_25 (by decide) (fun c25 => absurd rfl c25) (fun c25 => ?_)
    refine j_vret dX3_layFewest_28 rfl (Nat.le_refl _) (Nat.le_refl _) ?_
    exact ⟨rfl, rfl, rfl, _, rfl, vo_ms (by intro q hq; simp at hq; rw [hq]; exact ⟨Nat.le_of_ble_eq_true rfl, Nat.le_of_ble_eq_true rfl⟩)⟩
  · skip
    have hk1 : k < 100 := Nat.lt_of_not_le (fun q => c5 (show nI 100 ≤ nI k from nI_le q (by omega)))
    refine j_aload_n dX3_layFewest_8 rfl ?_
    refine j_get 38 dX3_layFewest_9 (by first | rfl | assumption) in_X3 rfl (by decide) q1137 rfl ?_
    refine j_iload_n dX3_layFewest_12 rfl ?_
    refine j_iconst (v := (-1)) dX3_layFewest_13 (by decide) ?_
    refine j_iast 0 k dX3_layFewest_14 (by first | rfl | assumption) rfl rfl (by show k < 100; omega) (by decide) ?_
    refine j_mdW (f := _) (by decide) (by decide) rfl ?_
    refine j_iinc dX3_layFewest_15 rfl (by decide) rfl ?_
    refine j_goto (tgt := 2) dX3_layFewest_18 (by decide) ?_
    refine j_less (L' := [some (.ref (r 100)), some (.int K), some (.int (nI (k + 1))), none, none, none, none, none, none]) ⟨Or.inr rfl, Or.inr rfl, Or.inr (by rw [← nI_inc]), Or.inl rfl, Or.inl rfl, Or.inl rfl, Or.inl rfl, Or.inl rfl, Or.inl rfl, trivial⟩ ?_
    exact ih (k + 1) _ (by omega) (by omega)
set_option maxHeartbeats 4000000 in
theorem m_never0 {l : Launch} {D : va_G} {dT : Nat → ClassId} {H0 : Heap} {r : Nat → Nat} {nx : Nat} {g : j_H} {kI : Int32} {bs fg : Nat} {F : Nat → Nat} {tk : Int64} {V : Nat → Nat → Int32} (i : Int32) : MC (gG l D dT H0) yX3_never cX3_never 4 (some .int) 6 0 0 [.ref (r 100), .int i] r (mdS r dT g kI bs fg 0 0 0 0 0 0 F tk V) nx (jq_m (if i = -1 then 0 else -1) r dT g kI bs fg 0 0 (0, 0, 0, 0) F tk V nx) := by
  refine MC.ofJ [some (.ref (r 100)), some (.int i), none, none] rfl (Nat.le_of_ble_eq_true rfl) (by decide) ?_
  refine j_aload_n dX3_never_0 rfl ?_
  refine j_aload_n dX3_never_1 rfl ?_
  refine j_get 4 dX3_never_2 (by first | rfl | assumption) in_X3 rfl (by decide) q1103 rfl ?_
  refine j_callV (m_layFewest0 _) q_m0.isR dX3_never_5 pmX3_layFewest q1340 q1342 qs42 (by first | rfl | assumption) rfl rfl rfl ⟨Nat.le_of_ble_eq_true rfl, Nat.le_of_ble_eq_true rfl⟩ ⟨Nat.le_of_ble_eq_true rfl, Nat.le_of_ble_eq_true rfl⟩ rfl (Nat.le_of_ble_eq_true rfl) ?_
  rintro v9 r h9 nx ⟨e9, rfl, rfl, V9, rfl, hV9⟩
  cases e9
  refine j_iconst (v := 0) dX3_never_8 (by decide) ?_
  refine j_istore_n dX3_never_9 (by decide) rfl ?_
  refine j_iconst (v := 0) dX3_never_10 (by decide) ?_
  refine j_istore_n dX3_never_11 (by decide) rfl ?_
  refine j_iload_n dX3_never_12 rfl ?_
  refine j_aload_n dX3_never_13 rfl ?_
  refine j_get 3 dX3_never_14 (by first | rfl | assumption) in_X3 rfl (by decide) q1102 rfl ?_
  refine j_icmp_ge (tgt := 46) dX3_never_17 (by decide) (fun c17 => ?_) (fun c17 => absurd (by decide) c17)
  refine j_iload_n dX3_never_46 rfl ?_
  refine j_iconst (v := (-1)) dX3_never_47 (by decide) ?_
  refine j_icmp_ne (tgt := 55) dX3_never_48 (by decide) (fun c48 => ?_) (fun c48 => ?_)
  · skip
    refine j_iconst (v := (-1)) dX3_never_55 (by decide) ?_
    refine j_iret dX3_never_56 rfl rfl (Nat.le_refl _) (Nat.le_refl _) ?_
    exact ⟨by rw [if_neg c48], rfl, rfl, V9, rfl, hV9⟩
  · skip
    refine j_iload_n dX3_never_51 rfl ?_
    refine j_goto (tgt := 56) dX3_never_52 (by decide) ?_
    refine j_iret dX3_never_56 rfl rfl (Nat.le_refl _) (Nat.le_refl _) ?_
    exact ⟨by rw [if_pos c48], rfl, rfl, V9, rfl, hV9⟩
set_option maxHeartbeats 4000000 in
theorem m_farthesto {l : Launch} {D : va_G} {dT : Nat → ClassId} {H0 : Heap} {r : Nat → Nat} {nx : Nat} {g : j_H} {kI : Int32} {bs fg m nk w x s t : Nat} {F : Nat → Nat} {tk : Int64} {V : Nat → Nat → Int32} (u : Int32) (hu : ¬ (0 ≤ u ∧ u ≤ 1)) : MC (gG l D dT H0) yX3_farthest cX3_farthest 4 (some .int) 6 0 0 [.ref (r 100), .int u] r (mdS r dT g kI bs fg m nk w x s t F tk V) nx (jq_i (-1000000002) r (mdS r dT g kI bs fg m nk w x s t F tk V) nx) := by
  refine MC.ofJ [some (.ref (r 100)), some (.int u), none, none] rfl (Nat.le_of_ble_eq_true rfl) (by decide) ?_
  refine j_iload_n dX3_farthest_0 rfl ?_
  refine j_iconst (v := 0) dX3_farthest_1 (by decide) ?_
  refine j_iconst (v := 1) dX3_farthest_2 (by decide) ?_
  refine j_callSi (c_X3_in _ _ _) dX3_farthest_3 pmX3_in q1228 q1229 rfl ⟨Nat.le_of_ble_eq_true rfl, Nat.le_of_ble_eq_true rfl⟩ ⟨Nat.le_of_ble_eq_true rfl, Nat.le_of_ble_eq_true rfl⟩ rfl (Nat.le_of_ble_eq_true rfl) ?_
  refine j_ifb_ne (tgt := 12) dX3_farthest_6 (by decide) (fun c6 => absurd c6 hu) (fun c6 => ?_)
  refine j_ldc dX3_farthest_9 q1231 ?_
  refine j_iret dX3_farthest_11 rfl rfl (Nat.le_refl _) (Nat.le_refl _) ?_
  exact ⟨rfl, rfl, rfl, rfl⟩
set_option maxHeartbeats 4000000 in
theorem m_farthest0 {l : Launch} {D : va_G} {dT : Nat → ClassId} {H0 : Heap} {r : Nat → Nat} {nx : Nat} {g : j_H} {kI : Int32} {bs fg : Nat} {F : Nat → Nat} {tk : Int64} {V : Nat → Nat → Int32} (u : Int32) (hu : 0 ≤ u ∧ u ≤ 1) : MC (gG l D dT H0) yX3_farthest cX3_farthest 4 (some .int) 6 0 0 [.ref (r 100), .int u] r (mdS r dT g kI bs fg 0 0 0 0 0 0 F tk V) nx (jq_i (-1000000003) r (mdS r dT g kI bs fg 0 0 0 0 0 0 F tk V) nx) := by
  refine MC.ofJ [some (.ref (r 100)), some (.int u), none, none] rfl (Nat.le_of_ble_eq_true rfl) (by decide) ?_
  refine j_iload_n dX3_farthest_0 rfl ?_
  refine j_iconst (v := 0) dX3_farthest_1 (by decide) ?_
  refine j_iconst (v := 1) dX3_farthest_2 (by decide) ?_
  refine j_callSi (c_X3_in _ _ _) dX3_farthest_3 pmX3_in q1228 q1229 rfl ⟨Nat.le_of_ble_eq_true rfl, Nat.le_of_ble_eq_true rfl⟩ ⟨Nat.le_of_ble_eq_true rfl, Nat.le_of_ble_eq_true rfl⟩ rfl (Nat.le_of_ble_eq_true rfl) ?_
  refine j_ifb_ne (tgt := 12) dX3_farthest_6 (by decide) (fun c6 => ?_) (fun c6 => absurd hu c6)
  refine j_aload_n dX3_farthest_12 rfl ?_
  refine j_get 3 dX3_farthest_13 (by first | rfl | assumption) in_X3 rfl (by decide) q1102 rfl ?_
  refine j_if_ne (tgt := 23) dX3_farthest_16 (by decide) (fun c16 => absurd rfl c16) (fun c16 => ?_)
  refine j_ldcw dX3_farthest_19 q1392 ?_
  refine j_iret dX3_farthest_22 rfl rfl (Nat.le_refl _) (Nat.le_refl _) ?_
  exact ⟨rfl, rfl, rfl, rfl⟩
set_option maxHeartbeats 4000000 in
theorem m_quicko1 {l : Launch} {D : va_G} {dT : Nat → ClassId} {H0 : Heap} {r : Nat → Nat} {nx : Nat} {g : j_H} {kI : Int32} {bs fg m nk w x s t : Nat} {F : Nat → Nat} {tk : Int64} {V : Nat → Nat → Int32} (y z : Int32) (hy : ¬ (0 ≤ y ∧ y ≤ 999)) : MC (gG l D dT H0) yX3_quick cX3_quick 8 (some .int) 6 0 0 [.ref (r 100), .int y, .int z] r (mdS r dT g kI bs fg m nk w x s t F tk V) nx (jq_i (-1000000002) r (mdS r dT g kI bs fg m nk w x s t F tk V) nx) := by
  refine MC.ofJ [some (.ref (r 100)), some (.int y), some (.int z), none, none, none, none, none] rfl (Nat.le_of_ble_eq_true rfl) (by decide) ?_
  refine j_iload_n dX3_quick_0 rfl ?_
  refine j_iconst (v := 0) dX3_quick_1 (by decide) ?_
  refine j_sipush (v := 999) dX3_quick_2 (by decide) ?_
  refine j_callSi (c_X3_in _ _ _) dX3_quick_5 pmX3_in q1228 q1229 rfl ⟨Nat.le_of_ble_eq_true rfl, Nat.le_of_ble_eq_true rfl⟩ ⟨Nat.le_of_ble_eq_true rfl, Nat.le_of_ble_eq_true rfl⟩ rfl (Nat.le_of_ble_eq_true rfl) ?_
  refine j_ifb_eq (tgt := 22) dX3_quick_8 (by decide) (fun c8 => ?_) (fun c8 => absurd c8 hy)
  refine j_ldc dX3_quick_22 q1231 ?_
  refine j_iret dX3_quick_24 rfl rfl (Nat.le_refl _) (Nat.le_refl _) ?_
  exact ⟨rfl, rfl, rfl, rfl⟩
set_option maxHeartbeats 4000000 in
theorem m_quicko2 {l : Launch} {D : va_G} {dT : Nat → ClassId} {H0 : Heap} {r : Nat → Nat} {nx : Nat} {g : j_H} {kI : Int32} {bs fg m nk w x s t : Nat} {F : Nat → Nat} {tk : Int64} {V : Nat → Nat → Int32} (y z : Int32) (hy : 0 ≤ y ∧ y ≤ 999) (hz : ¬ (0 ≤ z ∧ z ≤ 999)) : MC (gG l D dT H0) yX3_quick cX3_quick 8 (some .int) 6 0 0 [.ref (r 100), .int y, .int z] r (mdS r dT g kI bs fg m nk w x s t F tk V) nx (jq_i (-1000000002) r (mdS r dT g kI bs fg m nk w x s t F tk V) nx) := by
  refine MC.ofJ [some (.ref (r 100)), some (.int y), some (.int z), none, none, none, none, none] rfl (Nat.le_of_ble_eq_true rfl) (by decide) ?_
  refine j_iload_n dX3_quick_0 rfl ?_
  refine j_iconst (v := 0) dX3_quick_1 (by decide) ?_
  refine j_sipush (v := 999) dX3_quick_2 (by decide) ?_
  refine j_callSi (c_X3_in _ _ _) dX3_quick_5 pmX3_in q1228 q1229 rfl ⟨Nat.le_of_ble_eq_true rfl, Nat.le_of_ble_eq_true rfl⟩ ⟨Nat.le_of_ble_eq_true rfl, Nat.le_of_ble_eq_true rfl⟩ rfl (Nat.le_of_ble_eq_true rfl) ?_
  refine j_ifb_eq (tgt := 22) dX3_quick_8 (by decide) (fun c8 => absurd hy c8) (fun c8 => ?_)
  refine j_iload_n dX3_quick_11 rfl ?_
  refine j_iconst (v := 0) dX3_quick_12 (by decide) ?_
  refine j_sipush (v := 999) dX3_quick_13 (by decide) ?_
  refine j_callSi (c_X3_in _ _ _) dX3_quick_16 pmX3_in q1228 q1229 rfl ⟨Nat.le_of_ble_eq_true rfl, Nat.le_of_ble_eq_true rfl⟩ ⟨Nat.le_of_ble_eq_true rfl, Nat.le_of_ble_eq_true rfl⟩ rfl (Nat.le_of_ble_eq_true rfl) ?_
  refine j_ifb_ne (tgt := 25) dX3_quick_19 (by decide) (fun c19 => absurd c19 hz) (fun c19 => ?_)
  refine j_ldc dX3_quick_22 q1231 ?_
  refine j_iret dX3_quick_24 rfl rfl (Nat.le_refl _) (Nat.le_refl _) ?_
  exact ⟨rfl, rfl, rfl, rfl⟩
set_option maxHeartbeats 4000000 in
theorem m_quick0 {l : Launch} {D : va_G} {dT : Nat → ClassId} {H0 : Heap} {r : Nat → Nat} {nx : Nat} {g : j_H} {kI : Int32} {bs fg : Nat} {F : Nat → Nat} {tk : Int64} {V : Nat → Nat → Int32} (y z : Int32) (hy : 0 ≤ y ∧ y ≤ 999) (hz : 0 ≤ z ∧ z ≤ 999) : MC (gG l D dT H0) yX3_quick cX3_quick 8 (some .int) 6 0 0 [.ref (r 100), .int y, .int z] r (mdS r dT g kI bs fg 0 0 0 0 0 0 F tk V) nx (jq_m (-1) r dT g kI bs fg 0 0 (0, 0, 0, 0) F tk V nx) := by
  refine MC.ofJ [some (.ref (r 100)), some (.int y), some (.int z), none, none, none, none, none] rfl (Nat.le_of_ble_eq_true rfl) (by decide) ?_
  refine j_iload_n dX3_quick_0 rfl ?_
  refine j_iconst (v := 0) dX3_quick_1 (by decide) ?_
  refine j_sipush (v := 999) dX3_quick_2 (by decide) ?_
  refine j_callSi (c_X3_in _ _ _) dX3_quick_5 pmX3_in q1228 q1229 rfl ⟨Nat.le_of_ble_eq_true rfl, Nat.le_of_ble_eq_true rfl⟩ ⟨Nat.le_of_ble_eq_true rfl, Nat.le_of_ble_eq_true rfl⟩ rfl (Nat.le_of_ble_eq_true rfl) ?_
  refine j_ifb_eq (tgt := 22) dX3_quick_8 (by decide) (fun c8 => absurd hy c8) (fun c8 => ?_)
  refine j_iload_n dX3_quick_11 rfl ?_
  refine j_iconst (v := 0) dX3_quick_12 (by decide) ?_
  refine j_sipush (v := 999) dX3_quick_13 (by decide) ?_
  refine j_callSi (c_X3_in _ _ _) dX3_quick_16 pmX3_in q1228 q1229 rfl ⟨Nat.le_of_ble_eq_true rfl, Nat.le_of_ble_eq_true rfl⟩ ⟨Nat.le_of_ble_eq_true rfl, Nat.le_of_ble_eq_true rfl⟩ rfl (Nat.le_of_ble_eq_true rfl) ?_
  refine j_ifb_ne (tgt := 25) dX3_quick_19 (by decide) (fun c19 => ?_) (fun c19 => absurd hz c19)
  refine j_aload_n dX3_quick_25 rfl ?_
  refine j_aload_n dX3_quick_26 rfl ?_
  refine j_get 4 dX3_quick_27 (by first | rfl | assumption) in_X3 rfl (by decide) q1103 rfl ?_
  refine j_callV (m_layFewest0 _) q_m0.isR dX3_quick_30 pmX3_layFewest q1340 q1342 qs42 (by first | rfl | assumption) rfl rfl rfl ⟨Nat.le_of_ble_eq_true rfl, Nat.le_of_ble_eq_true rfl⟩ ⟨Nat.le_of_ble_eq_true rfl, Nat.le_of_ble_eq_true rfl⟩ rfl (Nat.le_of_ble_eq_true rfl) ?_
  rintro v9 r h9 nx ⟨e9, rfl, rfl, V9, rfl, hV9⟩
  cases e9
  refine j_iconst (v := (-1)) dX3_quick_33 (by decide) ?_
  refine j_istore_n dX3_quick_34 (by decide) rfl ?_
  refine j_iconst (v := 0) dX3_quick_35 (by decide) ?_
  refine j_istore dX3_quick_36 (by decide) rfl ?_
  refine j_iload dX3_quick_38 rfl ?_
  refine j_aload_n dX3_quick_40 rfl ?_
  refine j_get 3 dX3_quick_41 (by first | rfl | assumption) in_X3 rfl (by decide) q1102 rfl ?_
  refine j_icmp_ge (tgt := 177) dX3_quick_44 (by decide) (fun c44 => ?_) (fun c44 => absurd (by decide) c44)
  refine j_iload_n dX3_quick_177 rfl ?_
  refine j_iret dX3_quick_178 rfl rfl (Nat.le_refl _) (Nat.le_refl _) ?_
  exact ⟨rfl, rfl, rfl, V9, rfl, hV9⟩
set_option maxHeartbeats 4000000 in
theorem m_judge0 {l : Launch} {D : va_G} {dT : Nat → ClassId} {H0 : Heap} {r : Nat → Nat} {nx : Nat} {g : j_H} {kI : Int32} {bs fg : Nat} {F : Nat → Nat} {tk : Int64} {V : Nat → Nat → Int32} (hz : F 29 = 0) : MC (gG l D dT H0) yX3_judge cX3_judge 4 (some .int) 4 0 0 [.ref (r 100)] r (mdS r dT g kI bs fg 0 0 0 0 0 0 F tk V) nx (jq_i (-1) r (mdS r dT g kI bs fg 0 0 0 0 0 0 F tk V) nx) := by
  refine MC.ofJ [some (.ref (r 100)), none, none, none] rfl (Nat.le_of_ble_eq_true rfl) (by decide) ?_
  refine j_aload_n dX3_judge_0 rfl ?_
  refine j_callVi (m_stateNow (a := (0, 0, 0, 0)) (by decide)) dX3_judge_1 pmX3_stateNow q1344 q1346 qs43 (by first | rfl | assumption) rfl rfl rfl ⟨Nat.le_of_ble_eq_true rfl, Nat.le_of_ble_eq_true rfl⟩ ⟨Nat.le_of_ble_eq_true rfl, Nat.le_of_ble_eq_true rfl⟩ rfl (Nat.le_of_ble_eq_true rfl) ?_
  refine j_istore_n dX3_judge_4 (by decide) rfl ?_
  refine j_iconst (v := (-1)) dX3_judge_5 (by decide) ?_
  refine j_istore_n dX3_judge_6 (by decide) rfl ?_
  refine j_iconst (v := 0) dX3_judge_7 (by decide) ?_
  refine j_istore_n dX3_judge_8 (by decide) rfl ?_
  refine j_iload_n dX3_judge_9 rfl ?_
  refine j_aload_n dX3_judge_10 rfl ?_
  refine j_get 29 dX3_judge_11 (by first | rfl | assumption) in_X3 rfl (by decide) q1128 rfl ?_
  refine j_icmp_ge (tgt := 63) dX3_judge_14 (by decide) (fun c14 => ?_) (fun c14 => absurd (by rw [hz]; decide) c14)
  refine j_aload_n dX3_judge_63 rfl ?_
  refine j_iload_n dX3_judge_64 rfl ?_
  refine j_callVv m_setState0 dX3_judge_65 pmX3_setState q1360 q1362 qs47 (by first | rfl | assumption) rfl rfl rfl ⟨Nat.le_of_ble_eq_true rfl, Nat.le_of_ble_eq_true rfl⟩ ⟨Nat.le_of_ble_eq_true rfl, Nat.le_of_ble_eq_true rfl⟩ rfl (Nat.le_of_ble_eq_true rfl) ?_
  refine j_iload_n dX3_judge_68 rfl ?_
  refine j_iret dX3_judge_69 rfl rfl (Nat.le_refl _) (Nat.le_refl _) ?_
  exact ⟨rfl, rfl, rfl, rfl⟩
set_option maxHeartbeats 4000000 in
theorem m_goBackz {l : Launch} {D : va_G} {dT : Nat → ClassId} {H0 : Heap} {r : Nat → Nat} {nx : Nat} {g : j_H} {kI : Int32} {bs fg : Nat} {F : Nat → Nat} {tk : Int64} {V : Nat → Nat → Int32} (i sp tn : Nat) (hi : i ≤ 1) (h8 : V 108 i = 1) (h0 : V 106 (9 * i) = nI 0) (h1 : V 106 (9 * i + 1) = nI sp) (h2 : V 106 (9 * i + 2) = nI tn) : MC (gG l D dT H0) yX3_goBack cX3_goBack 3 (some .int) 1 0 0 [.ref (r 100), .int (nI i)] r (mdS r dT g kI bs fg 0 0 0 0 0 0 F tk V) nx (q_back i 0 sp tn r dT g kI bs fg 0 0 F tk V nx) := by
  refine MC.ofJ [some (.ref (r 100)), some (.int (nI i)), none] rfl (Nat.le_of_ble_eq_true rfl) (by decide) ?_
  refine j_re rfl rfl (h' := (mdS r dT g kI bs fg 0 0 0 0 0 0 F tk (vo V [(104, V 104)]))) (by rw [vo_same _ (by simp)]) ?_
  refine j_iload_n dX3_goBack_0 rfl ?_
  refine j_iconst (v := 0) dX3_goBack_1 (by decide) ?_
  refine j_iconst (v := 1) dX3_goBack_2 (by decide) ?_
  refine j_callSi (c_X3_in _ _ _) dX3_goBack_3 pmX3_in q1228 q1229 rfl ⟨Nat.le_of_ble_eq_true rfl, Nat.le_of_ble_eq_true rfl⟩ ⟨Nat.le_of_ble_eq_true rfl, Nat.le_of_ble_eq_true rfl⟩ rfl (Nat.le_of_ble_eq_true rfl) ?_
  refine j_ifb_ne (tgt := 12) dX3_goBack_6 (by decide) (fun c6 => ?_) (fun c6 => absurd ⟨nI_pos' (by omega), nI_le (b := 1) hi (by decide)⟩ c6)
  refine j_aload_n dX3_goBack_12 rfl ?_
  refine j_get 33 dX3_goBack_13 (by first | rfl | assumption) in_X3 rfl (by decide) q1132 rfl ?_
  refine j_iload_n dX3_goBack_16 rfl ?_
  refine j_zald 2 i dX3_goBack_17 (by first | rfl | assumption) rfl rfl (by show i < 2; omega) (by decide) ?_
  refine j_eqi (show _ = 1 from h8) ?_
  refine j_if_ne (tgt := 25) dX3_goBack_18 (by decide) (fun c18 => ?_) (fun c18 => absurd c18 (by decide))
  refine j_aload_n dX3_goBack_25 rfl ?_
  refine j_aload_n dX3_goBack_26 rfl ?_
  refine j_get 31 dX3_goBack_27 (by first | rfl | assumption) in_X3 rfl (by decide) q1130 rfl ?_
  refine j_bipush (v := 9) dX3_goBack_30 (by decide) ?_
  refine j_iload_n dX3_goBack_32 rfl ?_
  refine j_imul dX3_goBack_33 ?_
  refine j_iald 0 (9 * i) dX3_goBack_34 (by first | rfl | assumption) rfl (ix0 i) (by show _ < 18; omega) (by decide) ?_
  refine j_eqi (show _ = nI 0 from h0) ?_
  refine j_callVv m_setState0 dX3_goBack_35 pmX3_setState q1360 q1362 qs47 (by first | rfl | assumption) rfl rfl rfl ⟨Nat.le_of_ble_eq_true rfl, Nat.le_of_ble_eq_true rfl⟩ ⟨Nat.le_of_ble_eq_true rfl, Nat.le_of_ble_eq_true rfl⟩ rfl (Nat.le_of_ble_eq_true rfl) ?_
  refine j_aload_n dX3_goBack_38 rfl ?_
  refine j_aload_n dX3_goBack_39 rfl ?_
  refine j_get 31 dX3_goBack_40 (by first | rfl | assumption) in_X3 rfl (by decide) q1130 rfl ?_
  refine j_bipush (v := 9) dX3_goBack_43 (by decide) ?_
  refine j_iload_n dX3_goBack_45 rfl ?_
  refine j_imul dX3_goBack_46 ?_
  refine j_iconst (v := 1) dX3_goBack_47 (by decide) ?_
  refine j_iadd dX3_goBack_48 ?_
  refine j_iald 0 (9 * i + 1) dX3_goBack_49 (by first | rfl | assumption) rfl (ix1 i) (by show _ < 18; omega) (by decide) ?_
  refine j_eqi (show _ = nI sp from h1) ?_
  refine j_put 25 dX3_goBack_50 (by first | rfl | assumption) in_X3 tyX3_ok nmX3 rfl (by decide) q1124 rfl rfl rfl (by first | decide | simp) ?_
  refine j_mdF (q := 25) (v := sp) (by decide) rfl ?_
  refine j_aload_n dX3_goBack_53 rfl ?_
  refine j_aload_n dX3_goBack_54 rfl ?_
  refine j_get 31 dX3_goBack_55 (by first | rfl | assumption) in_X3 rfl (by decide) q1130 rfl ?_
  refine j_bipush (v := 9) dX3_goBack_58 (by decide) ?_
  refine j_iload_n dX3_goBack_60 rfl ?_
  refine j_imul dX3_goBack_61 ?_
  refine j_iconst (v := 2) dX3_goBack_62 (by decide) ?_
  refine j_iadd dX3_goBack_63 ?_
  refine j_iald 0 (9 * i + 2) dX3_goBack_64 (by first | rfl | assumption) rfl (ix2 i) (by show _ < 18; omega) (by decide) ?_
  refine j_eqi (show _ = nI tn from h2) ?_
  refine j_put 27 dX3_goBack_65 (by first | rfl | assumption) in_X3 tyX3_ok nmX3 rfl (by decide) q1126 rfl rfl rfl (by first | decide | simp) ?_
  refine j_mdF (q := 27) (v := tn) (by decide) rfl ?_
  refine j_iconst (v := 0) dX3_goBack_68 (by decide) ?_
  refine j_istore_n dX3_goBack_69 (by decide) rfl ?_
  refine j_less (L' := [some (.ref (r 100)), some (.int (nI i)), some (.int (nI 0))]) ⟨Or.inr rfl, Or.inr rfl, Or.inr rfl, trivial⟩ ?_
  refine j_lp2 (fun (k : Nat) (f : Nat → Int32) => (mdS r dT g kI bs fg 0 0 0 0 0 0 (va_up (va_up F 25 sp) 27 tn) tk (vo V [(104, f)]))) (fun k _ => [some (.ref (r 100)), some (.int (nI i)), some (.int (nI k))]) (fun k f => k ≤ 6 ∧ ∀ q, q < k → f q = V 106 (9 * i + 3 + q)) (fun k _ => 6 - k) ?_ 0 (V 104) ⟨Nat.zero_le _, fun q hq => absurd hq (Nat.not_lt_zero _)⟩
  intro k f ⟨hk, hf⟩ ih
  refine j_iload_n dX3_goBack_70 rfl ?_
  refine j_bipush (v := 6) dX3_goBack_71 (by decide) ?_
  refine j_icmp_ge (tgt := 101) dX3_goBack_73 (by decide) (fun c73 => ?_) (fun c73 => ?_)
  · skip
    have hk6 : k = 6 := by
      have := (nI_leI (by decide) (by omega)).mp (show nI 6 ≤ nI k from c73)
      omega
    subst hk6
    refine j_aload_n dX3_goBack_101 rfl ?_
    refine j_aload_n dX3_goBack_102 rfl ?_
    refine j_get 32 dX3_goBack_103 (by first | rfl | assumption) in_X3 rfl (by decide) q1131 rfl ?_
    refine j_iload_n dX3_goBack_106 rfl ?_
    refine j_lald 3 i dX3_goBack_107 (by first | rfl | assumption) rfl rfl (by show i < 2; omega) (by decide) ?_
    refine j_eql (show _ = lN (F (i + 100)) by rw [va_up_ne _ _ (by omega), va_up_ne _ _ (by omega)]) ?_
    refine j_put 26 dX3_goBack_108 (by first | rfl | assumption) in_X3 tyX3_ok nmX3 rfl (by decide) q1125 rfl rfl rfl (by first | decide | simp) ?_
    refine j_mdF (q := 26) (v := (F (i + 100))) (by decide) rfl ?_
    refine j_iconst (v := 1) dX3_goBack_111 (by decide) ?_
    refine j_iret dX3_goBack_112 rfl rfl (Nat.le_refl _) (Nat.le_refl _) ?_
    exact ⟨rfl, rfl, rfl, f, rfl, hf⟩
  · skip
    have hk6 : k < 6 := Nat.lt_of_not_le (fun q => c73 (show nI 6 ≤ nI k from nI_le q (by omega)))
    refine j_aload_n dX3_goBack_76 rfl ?_
    refine j_get 28 dX3_goBack_77 (by first | rfl | assumption) in_X3 rfl (by decide) q1127 rfl ?_
    refine j_iload_n dX3_goBack_80 rfl ?_
    refine j_aload_n dX3_goBack_81 rfl ?_
    refine j_get 31 dX3_goBack_82 (by first | rfl | assumption) in_X3 rfl (by decide) q1130 rfl ?_
    refine j_bipush (v := 9) dX3_goBack_85 (by decide) ?_
    refine j_iload_n dX3_goBack_87 rfl ?_
    refine j_imul dX3_goBack_88 ?_
    refine j_iconst (v := 3) dX3_goBack_89 (by decide) ?_
    refine j_iadd dX3_goBack_90 ?_
    refine j_iload_n dX3_goBack_91 rfl ?_
    refine j_iadd dX3_goBack_92 ?_
    refine j_iald 0 (9 * i + 3 + k) dX3_goBack_93 (by first | rfl | assumption) rfl (ix3 i k) (by show _ < 18; omega) (by decide) ?_
    refine j_iast 0 k dX3_goBack_94 (by first | rfl | assumption) rfl rfl (by show k < 6; omega) (by decide) ?_
    refine j_mdW (f := _) (by decide) (by decide) rfl ?_
    refine j_iinc dX3_goBack_95 rfl (by decide) rfl ?_
    refine j_goto (tgt := 70) dX3_goBack_98 (by decide) ?_
    refine j_less (L' := [some (.ref (r 100)), some (.int (nI i)), some (.int (nI (k + 1)))]) ⟨Or.inr rfl, Or.inr rfl, Or.inr (by rw [← nI_inc]), trivial⟩ ?_
    refine ih (k + 1) _ ⟨by omega, fun q hq => ?_⟩ (by omega)
    by_cases hqk : q = k
    · subst hqk; exact pk_us
    · exact (pk_un hqk).trans (hf q (by omega))
