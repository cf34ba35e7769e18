set_option maxRecDepth 100000
set_option maxHeartbeats 4000000 in
theorem f_game1o {l : Launch} {D : va_G} {dT : Nat → ClassId} {H0 : Heap} {r : Nat → Nat} {nx : Nat} {g : j_H} {F : Nat → Nat} {V : Nat → Nat → Int32} {nk : Nat} (h60 : g 60 = some (rcell (.ref (r 61)) (r 62) nk)) {kd bs fg m : Nat} {ks : Nat → KY} (hK : fkK r dT g kd bs fg m nk ks) (a b w : Int32) (hA : ¬ ((0 ≤ a ∧ a ≤ nI m - 1) ∧ (0 ≤ b ∧ b ≤ 6) ∧ (0 ≤ w ∧ w ≤ 1))) : MC (gG l D dT H0) yX0_game cX0_game 7 (some .int) 13 0 0 [.ref (r 0), .int a, .int b, .int w] r (fkS r dT g F V) nx (jq_i (-1000000002) r (fkS r dT g F V) nx) := by
  obtain ⟨h61, hD, hkn, ka, h62, hks⟩ := id hK
  have hm := hD.pos
  have hm2 := hD.le
  have hmm := mm_le hm2
  refine MC.ofJ [some (.ref (r 0)), some (.int a), some (.int b), some (.int w), none, none, none] rfl (Nat.le_of_ble_eq_true rfl) (by decide) ?_
  refine j_aload_n dX0_game_0 rfl ?_
  refine j_iload_n dX0_game_1 rfl ?_
  refine j_callVi (f_isNumber1 h60 h61 hm hm2 _) dX0_game_2 pmX0_isNumber q920 q922 qs17 (by first | rfl | assumption) rfl rfl rfl ⟨Nat.le_of_ble_eq_true rfl, Nat.le_of_ble_eq_true rfl⟩ ⟨Nat.le_of_ble_eq_true rfl, Nat.le_of_ble_eq_true rfl⟩ rfl (Nat.le_of_ble_eq_true rfl) ?_
  refine j_ifb_eq (tgt := 27) dX0_game_5 (by decide) (fun c5 => ?_) (fun c5 => ?_)
  · skip
    refine j_ldc dX0_game_27 q223 ?_
    refine j_iret dX0_game_29 rfl rfl (Nat.le_refl _) (Nat.le_refl _) ?_
    exact jr_i rfl
  · skip
    refine j_iload_n dX0_game_8 rfl ?_
    refine j_iconst (v := 0) dX0_game_9 (by decide) ?_
    refine j_bipush (v := 6) dX0_game_10 (by decide) ?_
    refine j_callSi (c_X0_isIn _ _ _) dX0_game_12 pmX0_isIn q220 q221 rfl ⟨Nat.le_of_ble_eq_true rfl, Nat.le_of_ble_eq_true rfl⟩ ⟨Nat.le_of_ble_eq_true rfl, Nat.le_of_ble_eq_true rfl⟩ rfl (Nat.le_of_ble_eq_true rfl) ?_
    refine j_ifb_eq (tgt := 27) dX0_game_15 (by decide) (fun c15 => ?_) (fun c15 => ?_)
    · skip
      refine j_ldc dX0_game_27 q223 ?_
      refine j_iret dX0_game_29 rfl rfl (Nat.le_refl _) (Nat.le_refl _) ?_
      exact jr_i rfl
    · skip
      refine j_iload_n dX0_game_18 rfl ?_
      refine j_iconst (v := 0) dX0_game_19 (by decide) ?_
      refine j_iconst (v := 1) dX0_game_20 (by decide) ?_
      refine j_callSi (c_X0_isIn _ _ _) dX0_game_21 pmX0_isIn q220 q221 rfl ⟨Nat.le_of_ble_eq_true rfl, Nat.le_of_ble_eq_true rfl⟩ ⟨Nat.le_of_ble_eq_true rfl, Nat.le_of_ble_eq_true rfl⟩ rfl (Nat.le_of_ble_eq_true rfl) ?_
      refine j_ifb_ne (tgt := 30) dX0_game_24 (by decide) (fun c24 => ?_) (fun c24 => ?_)
      · skip
        exact absurd ⟨c5, c15, c24⟩ hA
      · skip
        refine j_ldc dX0_game_27 q223 ?_
        refine j_iret dX0_game_29 rfl rfl (Nat.le_refl _) (Nat.le_refl _) ?_
        exact jr_i rfl
set_option maxHeartbeats 4000000 in
theorem f_game0o {l : Launch} {D : va_G} {dT : Nat → ClassId} {H0 : Heap} {r : Nat → Nat} {nx : Nat} {g : j_H} {F : Nat → Nat} {V : Nat → Nat → Int32} {a0 nk : Nat} (h60 : g 60 = some (rcell .null a0 nk)) (a b w : Int32)  : MC (gG l D dT H0) yX0_game cX0_game 7 (some .int) 13 0 0 [.ref (r 0), .int a, .int b, .int w] r (fkS r dT g F V) nx (jq_i (-1000000002) r (fkS r dT g F V) nx) := by
  refine MC.ofJ [some (.ref (r 0)), some (.int a), some (.int b), some (.int w), none, none, none] rfl (Nat.le_of_ble_eq_true rfl) (by decide) ?_
  refine j_aload_n dX0_game_0 rfl ?_
  refine j_iload_n dX0_game_1 rfl ?_
  refine j_callVi (f_isNumber0 h60 _) dX0_game_2 pmX0_isNumber q920 q922 qs17 (by first | rfl | assumption) rfl rfl rfl ⟨Nat.le_of_ble_eq_true rfl, Nat.le_of_ble_eq_true rfl⟩ ⟨Nat.le_of_ble_eq_true rfl, Nat.le_of_ble_eq_true rfl⟩ rfl (Nat.le_of_ble_eq_true rfl) ?_
  refine j_ifb_eq (tgt := 27) dX0_game_5 (by decide) (fun c5 => ?_) (fun c5 => ?_)
  · skip
    refine j_ldc dX0_game_27 q223 ?_
    refine j_iret dX0_game_29 rfl rfl (Nat.le_refl _) (Nat.le_refl _) ?_
    exact jr_i rfl
  · skip
    refine j_iload_n dX0_game_8 rfl ?_
    refine j_iconst (v := 0) dX0_game_9 (by decide) ?_
    refine j_bipush (v := 6) dX0_game_10 (by decide) ?_
    refine j_callSi (c_X0_isIn _ _ _) dX0_game_12 pmX0_isIn q220 q221 rfl ⟨Nat.le_of_ble_eq_true rfl, Nat.le_of_ble_eq_true rfl⟩ ⟨Nat.le_of_ble_eq_true rfl, Nat.le_of_ble_eq_true rfl⟩ rfl (Nat.le_of_ble_eq_true rfl) ?_
    refine j_ifb_eq (tgt := 27) dX0_game_15 (by decide) (fun c15 => ?_) (fun c15 => ?_)
    · skip
      refine j_ldc dX0_game_27 q223 ?_
      refine j_iret dX0_game_29 rfl rfl (Nat.le_refl _) (Nat.le_refl _) ?_
      exact jr_i rfl
    · skip
      refine j_iload_n dX0_game_18 rfl ?_
      refine j_iconst (v := 0) dX0_game_19 (by decide) ?_
      refine j_iconst (v := 1) dX0_game_20 (by decide) ?_
      refine j_callSi (c_X0_isIn _ _ _) dX0_game_21 pmX0_isIn q220 q221 rfl ⟨Nat.le_of_ble_eq_true rfl, Nat.le_of_ble_eq_true rfl⟩ ⟨Nat.le_of_ble_eq_true rfl, Nat.le_of_ble_eq_true rfl⟩ rfl (Nat.le_of_ble_eq_true rfl) ?_
      refine j_ifb_ne (tgt := 30) dX0_game_24 (by decide) (fun c24 => ?_) (fun c24 => ?_)
      · skip
        exact absurd c5 none0
      · skip
        refine j_ldc dX0_game_27 q223 ?_
        refine j_iret dX0_game_29 rfl rfl (Nat.le_refl _) (Nat.le_refl _) ?_
        exact jr_i rfl
set_option maxHeartbeats 4000000 in
theorem f_game0 {l : Launch} {D : va_G} {dT : Nat → ClassId} {H0 : Heap} {r : Nat → Nat} {nx : Nat} {g : j_H} {F : Nat → Nat} {V : Nat → Nat → Int32} {nk : Nat} (h60 : g 60 = some (rcell (.ref (r 61)) (r 62) nk)) {kd bs fg m : Nat} {ks : Nat → KY} (hK : fkK r dT g kd bs fg m nk ks) (v : Nat) (w : Int32) (hv : v < m) (hw : 0 ≤ w ∧ w ≤ 1) (hs : F 0 < 8 * m * m) : MC (gG l D dT H0) yX0_game cX0_game 7 (some .int) 13 0 0 [.ref (r 0), .int (nI v), .int 0, .int w] r (fkS r dT g F V) nx (jq_i (if w = 0 then (wth (fun k a => stk kd bs m (ks k) a) nk v 0 (decA m (F 0))) else -1) r (fkS r dT g F V) nx) := by
  obtain ⟨h61, hD, hkn, ka, h62, hks⟩ := id hK
  have hm := hD.pos
  have hm2 := hD.le
  have hmm := mm_le hm2
  refine MC.ofJ [some (.ref (r 0)), some (.int (nI v)), some (.int 0), some (.int w), none, none, none] rfl (Nat.le_of_ble_eq_true rfl) (by decide) ?_
  refine j_aload_n dX0_game_0 rfl ?_
  refine j_iload_n dX0_game_1 rfl ?_
  refine j_callVi (f_isNumber1 h60 h61 hm hm2 _) dX0_game_2 pmX0_isNumber q920 q922 qs17 (by first | rfl | assumption) rfl rfl rfl ⟨Nat.le_of_ble_eq_true rfl, Nat.le_of_ble_eq_true rfl⟩ ⟨Nat.le_of_ble_eq_true rfl, Nat.le_of_ble_eq_true rfl⟩ rfl (Nat.le_of_ble_eq_true rfl) ?_
  refine j_ifb_eq (tgt := 27) dX0_game_5 (by decide) (fun c5 => absurd (nI_inr hv (by omega)) c5) (fun c5 => ?_)
  refine j_iload_n dX0_game_8 rfl ?_
  refine j_iconst (v := 0) dX0_game_9 (by decide) ?_
  refine j_bipush (v := 6) dX0_game_10 (by decide) ?_
  refine j_callSi (c_X0_isIn _ _ _) dX0_game_12 pmX0_isIn q220 q221 rfl ⟨Nat.le_of_ble_eq_true rfl, Nat.le_of_ble_eq_true rfl⟩ ⟨Nat.le_of_ble_eq_true rfl, Nat.le_of_ble_eq_true rfl⟩ rfl (Nat.le_of_ble_eq_true rfl) ?_
  refine j_ifb_eq (tgt := 27) dX0_game_15 (by decide) (fun c15 => absurd (by decide) c15) (fun c15 => ?_)
  refine j_iload_n dX0_game_18 rfl ?_
  refine j_iconst (v := 0) dX0_game_19 (by decide) ?_
  refine j_iconst (v := 1) dX0_game_20 (by decide) ?_
  refine j_callSi (c_X0_isIn _ _ _) dX0_game_21 pmX0_isIn q220 q221 rfl ⟨Nat.le_of_ble_eq_true rfl, Nat.le_of_ble_eq_true rfl⟩ ⟨Nat.le_of_ble_eq_true rfl, Nat.le_of_ble_eq_true rfl⟩ rfl (Nat.le_of_ble_eq_true rfl) ?_
  refine j_ifb_ne (tgt := 30) dX0_game_24 (by decide) (fun c24 => ?_) (fun c24 => absurd hw c24)
  refine j_aload_n dX0_game_30 rfl ?_
  refine j_aload_n dX0_game_31 rfl ?_
  refine j_get 1 dX0_game_32 (by first | rfl | assumption) in_X0 rfl (by decide) q154 rfl ?_
  refine j_getN 0 dX0_game_35 (by first | rfl | assumption) in_X2 rfl (by decide) (fun _ hs => hs.1 _ qn125) rfl ?_
  refine j_iload_n dX0_game_38 rfl ?_
  refine j_iload_n dX0_game_39 rfl ?_
  refine j_callVi (f_worth0 h60 hK (F 0) v hv hs) dX0_game_40 pmX0_worth q1046 q1048 qs26 (by first | rfl | assumption) rfl rfl rfl ⟨Nat.le_of_ble_eq_true rfl, Nat.le_of_ble_eq_true rfl⟩ ⟨Nat.le_of_ble_eq_true rfl, Nat.le_of_ble_eq_true rfl⟩ rfl (Nat.le_of_ble_eq_true rfl) ?_
  refine j_istore dX0_game_43 (by decide) rfl ?_
  refine j_iload_n dX0_game_45 rfl ?_
  refine j_if_ne (tgt := 52) dX0_game_46 (by decide) (fun c46 => ?_) (fun c46 => ?_)
  · skip
    refine j_iconst (v := 0) dX0_game_52 (by decide) ?_
    refine j_istore dX0_game_53 (by decide) rfl ?_
    refine j_iload dX0_game_55 rfl ?_
    refine j_aload_n dX0_game_57 rfl ?_
    refine j_get 0 dX0_game_58 (by first | rfl | assumption) in_X0 rfl (by decide) q153 rfl ?_
    refine j_getN 2 dX0_game_61 (by first | rfl | assumption) in_X1 rfl (by decide) (fun _ hs => hs.1 _ qn109) rfl ?_
    refine j_icmp_ge (tgt := 132) dX0_game_64 (by decide) (fun c64 => ?_) (fun c64 => ?_)
    · skip
      skip
      refine j_iconst (v := (-1)) dX0_game_132 (by decide) ?_
      refine j_iret dX0_game_133 rfl rfl (Nat.le_refl _) (Nat.le_refl _) ?_
      refine jr_i ?_
      rw [if_neg c46]
    · skip
      skip
      refine j_iload_n dX0_game_67 rfl ?_
      refine j_if_le (tgt := 132) dX0_game_68 (by decide) (fun c68 => ?_) (fun c68 => absurd (by decide) c68)
      refine j_iconst (v := (-1)) dX0_game_132 (by decide) ?_
      refine j_iret dX0_game_133 rfl rfl (Nat.le_refl _) (Nat.le_refl _) ?_
      refine jr_i ?_
      rw [if_neg c46]
  · skip
    refine j_iload dX0_game_49 rfl ?_
    refine j_iret dX0_game_51 rfl rfl (Nat.le_refl _) (Nat.le_refl _) ?_
    exact jr_i (if_pos c46).symm
set_option maxHeartbeats 4000000 in
theorem f_game1 {l : Launch} {D : va_G} {dT : Nat → ClassId} {H0 : Heap} {r : Nat → Nat} {nx : Nat} {g : j_H} {F : Nat → Nat} {V : Nat → Nat → Int32} {nk : Nat} (h60 : g 60 = some (rcell (.ref (r 61)) (r 62) nk)) {kd bs fg m : Nat} {ks : Nat → KY} (hK : fkK r dT g kd bs fg m nk ks) (v : Nat) (w : Int32) (hv : v < m) (hw : 0 ≤ w ∧ w ≤ 1) (hs : F 0 < 8 * m * m) : MC (gG l D dT H0) yX0_game cX0_game 7 (some .int) 13 0 0 [.ref (r 0), .int (nI v), .int 1, .int w] r (fkS r dT g F V) nx (jq_i (if w = 0 then (wth (fun k a => stk kd bs m (ks k) a) nk v 1 (decA m (F 0))) else gfst (fun k => if (stk kd bs m (ks k) (decA m (F 0))).2.2.1 = v then 1 else -(wth (fun k a => stk kd bs m (ks k) a) nk v 0 (stk kd bs m (ks k) (decA m (F 0))))) (wth (fun k a => stk kd bs m (ks k) a) nk v 1 (decA m (F 0))) nk 0) r (fkS r dT g F V) nx) := by
  obtain ⟨h61, hD, hkn, ka, h62, hks⟩ := id hK
  have hm := hD.pos
  have hm2 := hD.le
  have hmm := mm_le hm2
  refine MC.ofJ [some (.ref (r 0)), some (.int (nI v)), some (.int 1), some (.int w), none, none, none] rfl (Nat.le_of_ble_eq_true rfl) (by decide) ?_
  refine j_aload_n dX0_game_0 rfl ?_
  refine j_iload_n dX0_game_1 rfl ?_
  refine j_callVi (f_isNumber1 h60 h61 hm hm2 _) dX0_game_2 pmX0_isNumber q920 q922 qs17 (by first | rfl | assumption) rfl rfl rfl ⟨Nat.le_of_ble_eq_true rfl, Nat.le_of_ble_eq_true rfl⟩ ⟨Nat.le_of_ble_eq_true rfl, Nat.le_of_ble_eq_true rfl⟩ rfl (Nat.le_of_ble_eq_true rfl) ?_
  refine j_ifb_eq (tgt := 27) dX0_game_5 (by decide) (fun c5 => absurd (nI_inr hv (by omega)) c5) (fun c5 => ?_)
  refine j_iload_n dX0_game_8 rfl ?_
  refine j_iconst (v := 0) dX0_game_9 (by decide) ?_
  refine j_bipush (v := 6) dX0_game_10 (by decide) ?_
  refine j_callSi (c_X0_isIn _ _ _) dX0_game_12 pmX0_isIn q220 q221 rfl ⟨Nat.le_of_ble_eq_true rfl, Nat.le_of_ble_eq_true rfl⟩ ⟨Nat.le_of_ble_eq_true rfl, Nat.le_of_ble_eq_true rfl⟩ rfl (Nat.le_of_ble_eq_true rfl) ?_
  refine j_ifb_eq (tgt := 27) dX0_game_15 (by decide) (fun c15 => absurd (by decide) c15) (fun c15 => ?_)
  refine j_iload_n dX0_game_18 rfl ?_
  refine j_iconst (v := 0) dX0_game_19 (by decide) ?_
  refine j_iconst (v := 1) dX0_game_20 (by decide) ?_
  refine j_callSi (c_X0_isIn _ _ _) dX0_game_21 pmX0_isIn q220 q221 rfl ⟨Nat.le_of_ble_eq_true rfl, Nat.le_of_ble_eq_true rfl⟩ ⟨Nat.le_of_ble_eq_true rfl, Nat.le_of_ble_eq_true rfl⟩ rfl (Nat.le_of_ble_eq_true rfl) ?_
  refine j_ifb_ne (tgt := 30) dX0_game_24 (by decide) (fun c24 => ?_) (fun c24 => absurd hw c24)
  refine j_aload_n dX0_game_30 rfl ?_
  refine j_aload_n dX0_game_31 rfl ?_
  refine j_get 1 dX0_game_32 (by first | rfl | assumption) in_X0 rfl (by decide) q154 rfl ?_
  refine j_getN 0 dX0_game_35 (by first | rfl | assumption) in_X2 rfl (by decide) (fun _ hs => hs.1 _ qn125) rfl ?_
  refine j_iload_n dX0_game_38 rfl ?_
  refine j_iload_n dX0_game_39 rfl ?_
  refine j_callVi (f_worth1 h60 hK (F 0) v hv hs) dX0_game_40 pmX0_worth q1046 q1048 qs26 (by first | rfl | assumption) rfl rfl rfl ⟨Nat.le_of_ble_eq_true rfl, Nat.le_of_ble_eq_true rfl⟩ ⟨Nat.le_of_ble_eq_true rfl, Nat.le_of_ble_eq_true rfl⟩ rfl (Nat.le_of_ble_eq_true rfl) ?_
  refine j_istore dX0_game_43 (by decide) rfl ?_
  refine j_iload_n dX0_game_45 rfl ?_
  refine j_if_ne (tgt := 52) dX0_game_46 (by decide) (fun c46 => ?_) (fun c46 => ?_)
  · skip
    refine j_iconst (v := 0) dX0_game_52 (by decide) ?_
    refine j_istore dX0_game_53 (by decide) rfl ?_
    refine j_re (L' := [some (.ref (r 0)), some (.int (nI v)), some (.int 1), some (.int w), some (.int (wth (fun k a => stk kd bs m (ks k) a) nk v 1 (decA m (F 0)))), some (.int (nI 0)), none]) rfl rfl rfl ?_
    refine j_lp1 (fun (k : Nat) => fkS r dT g F V) (fun k => [some (.ref (r 0)), some (.int (nI v)), some (.int 1), some (.int w), some (.int (wth (fun k a => stk kd bs m (ks k) a) nk v 1 (decA m (F 0)))), some (.int (nI k)), none]) (fun k => k ≤ nk ∧ gfst (fun k => if (stk kd bs m (ks k) (decA m (F 0))).2.2.1 = v then 1 else -(wth (fun k a => stk kd bs m (ks k) a) nk v 0 (stk kd bs m (ks k) (decA m (F 0))))) (wth (fun k a => stk kd bs m (ks k) a) nk v 1 (decA m (F 0))) (nk - k) k = gfst (fun k => if (stk kd bs m (ks k) (decA m (F 0))).2.2.1 = v then 1 else -(wth (fun k a => stk kd bs m (ks k) a) nk v 0 (stk kd bs m (ks k) (decA m (F 0))))) (wth (fun k a => stk kd bs m (ks k) a) nk v 1 (decA m (F 0))) nk 0) (fun k => nk - k) ?_ 0 ⟨Nat.zero_le _, rfl⟩
    intro k ⟨hkK, hgf⟩ ih
    refine j_iload dX0_game_55 rfl ?_
    refine j_aload_n dX0_game_57 rfl ?_
    refine j_get 0 dX0_game_58 (by first | rfl | assumption) in_X0 rfl (by decide) q153 rfl ?_
    refine j_getN 2 dX0_game_61 (by first | rfl | assumption) in_X1 rfl (by decide) (fun _ hs => hs.1 _ qn109) rfl ?_
    refine j_icmp_ge (tgt := 132) dX0_game_64 (by decide) (fun c64 => ?_) (fun c64 => ?_)
    · skip
      have hkk : k = nk := by
        have := (nI_leI (by omega) (by omega)).mp c64
        omega
      rw [hkk, Nat.sub_self, gfst] at hgf
      refine j_iconst (v := (-1)) dX0_game_132 (by decide) ?_
      refine j_iret dX0_game_133 rfl rfl (Nat.le_refl _) (Nat.le_refl _) ?_
      refine jr_i ?_
      rw [if_neg c46]
      exact hgf
    · skip
      have hkK2 : k < nk := Nat.lt_of_not_le (fun q => c64 (nI_le q (by omega)))
      rw [show nk - k = (nk - (k + 1)) + 1 by omega, gfst] at hgf
      have hox : okA m (stk kd bs m (ks k) (decA m (F 0))) := stk_ok hD (hks k hkK2).2.2 (decA_ok hm hs)
      have hxl := encA_lt hox
      refine j_iload_n dX0_game_67 rfl ?_
      refine j_if_le (tgt := 132) dX0_game_68 (by decide) (fun c68 => absurd c68 (by decide)) (fun c68 => ?_)
      refine j_aload_n dX0_game_71 rfl ?_
      refine j_get 0 dX0_game_72 (by first | rfl | assumption) in_X0 rfl (by decide) q153 rfl ?_
      refine j_getN 1 dX0_game_75 (by first | rfl | assumption) in_X1 rfl (by decide) (fun _ hs => hs.1 _ qn107) rfl ?_
      refine j_iload dX0_game_78 rfl ?_
      refine j_aald (w := .ref (r (k + 63))) 4 k dX0_game_80 (by first | rfl | assumption) rfl rfl rfl (by omega) (by decide) (by rw [(hks _ hkK2).1]; rfl) ?_
      refine j_aload_n dX0_game_81 rfl ?_
      refine j_get 1 dX0_game_82 (by first | rfl | assumption) in_X0 rfl (by decide) q154 rfl ?_
      refine j_getN 0 dX0_game_85 (by first | rfl | assumption) in_X2 rfl (by decide) (fun _ hs => hs.1 _ qn125) rfl ?_
      refine j_strike (i := 61) (q := ks k) dX0_game_88 (by exact (hks k hkK2).2.1) (by exact h61) hD (hks k hkK2).2.2 hs ⟨Nat.le_of_ble_eq_true rfl, Nat.le_of_ble_eq_true rfl, Nat.le_of_ble_eq_true rfl, Nat.le_of_ble_eq_true rfl⟩ (Nat.le_of_ble_eq_true rfl) ?_
      refine j_eqi (show _ = nI (encA m (stk kd bs m (ks k) (decA m (F 0)))) from rfl) ?_
      refine j_istore dX0_game_91 (by decide) rfl ?_
      refine j_join (tgt := 118) (fun x => x = (fun k => if (stk kd bs m (ks k) (decA m (F 0))).2.2.1 = v then 1 else -(wth (fun k a => stk kd bs m (ks k) a) nk v 0 (stk kd bs m (ks k) (decA m (F 0))))) k) (fun v93 hv93 => ?_) (fun kj93 => ?_)
      · skip
        subst hv93
        refine j_iload dX0_game_118 rfl ?_
        refine j_icmp_ne (tgt := 126) dX0_game_120 (by decide) (fun c120 => ?_) (fun c120 => ?_)
        · skip
          rw [if_neg c120] at hgf
          refine j_iinc dX0_game_126 rfl (by decide) rfl ?_
          refine j_goto (tgt := 55) dX0_game_129 (by decide) ?_
          refine j_less (L' := [some (.ref (r 0)), some (.int (nI v)), some (.int 1), some (.int w), some (.int (wth (fun k a => stk kd bs m (ks k) a) nk v 1 (decA m (F 0)))), some (.int (nI (k + 1))), none]) ⟨Or.inr rfl, Or.inr rfl, Or.inr rfl, Or.inr rfl, Or.inr rfl, Or.inr (by rw [← nI_inc]), Or.inl rfl, trivial⟩ ?_
          exact ih (k + 1) ⟨by omega, hgf⟩ (by omega)
        · skip
          rw [if_pos c120] at hgf
          refine j_iload dX0_game_123 rfl ?_
          refine j_iret dX0_game_125 rfl rfl (Nat.le_refl _) (Nat.le_refl _) ?_
          refine jr_i ?_
          rw [if_neg c46]
          exact hgf
      · skip
        refine j_aload_n dX0_game_93 rfl ?_
        refine j_iload dX0_game_94 rfl ?_
        refine j_callVi (f_shown1 h60 h61 hm hm2 (encA m (stk kd bs m (ks k) (decA m (F 0)))) (by omega)) dX0_game_96 pmX0_shown q771 q773 qs14 (by first | rfl | assumption) rfl rfl rfl ⟨Nat.le_of_ble_eq_true rfl, Nat.le_of_ble_eq_true rfl⟩ ⟨Nat.le_of_ble_eq_true rfl, Nat.le_of_ble_eq_true rfl⟩ rfl (Nat.le_of_ble_eq_true rfl) ?_
        refine j_eqi (show _ = nI (stk kd bs m (ks k) (decA m (F 0))).2.2.1 from congrArg nI (by show sS m (enc m (stk kd bs m (ks k) (decA m (F 0))).1 (stk kd bs m (ks k) (decA m (F 0))).2.1 (stk kd bs m (ks k) (decA m (F 0))).2.2.1 (stk kd bs m (ks k) (decA m (F 0))).2.2.2) = _; exact sS_enc hox.2.2.1 hox.2.2.2)) ?_
        refine j_iload_n dX0_game_99 rfl ?_
        refine j_icmp_ne (tgt := 107) dX0_game_100 (by decide) (fun c100 => ?_) (fun c100 => ?_)
        · skip
          have c100 : ¬ (stk kd bs m (ks k) (decA m (F 0))).2.2.1 = v := fun q => c100 (by rw [q])
          refine j_aload_n dX0_game_107 rfl ?_
          refine j_iload dX0_game_108 rfl ?_
          refine j_iload_n dX0_game_110 rfl ?_
          refine j_iload_n dX0_game_111 rfl ?_
          refine j_iconst (v := 1) dX0_game_112 (by decide) ?_
          refine j_isub dX0_game_113 ?_
          refine j_eqi (show _ = (0 : Int32) by decide) ?_
          refine j_callVi (f_worth0 h60 hK (encA m (stk kd bs m (ks k) (decA m (F 0)))) v hv hxl) dX0_game_114 pmX0_worth q1046 q1048 qs26 (by first | rfl | assumption) rfl rfl rfl ⟨Nat.le_of_ble_eq_true rfl, Nat.le_of_ble_eq_true rfl⟩ ⟨Nat.le_of_ble_eq_true rfl, Nat.le_of_ble_eq_true rfl⟩ rfl (Nat.le_of_ble_eq_true rfl) ?_
          refine j_eqi (show _ = wth (fun k a => stk kd bs m (ks k) a) nk v 0 (stk kd bs m (ks k) (decA m (F 0))) by rw [decA_encA hox]) ?_
          refine j_ineg dX0_game_117 ?_
          exact kj93 _ (by first | exact (if_pos c100).symm | exact (if_neg c100).symm)
        · skip
          have c100 : (stk kd bs m (ks k) (decA m (F 0))).2.2.1 = v := (nI_eq (by have := hox.2.2.1; omega) (by omega)).mp c100
          refine j_iconst (v := 1) dX0_game_103 (by decide) ?_
          refine j_goto (tgt := 118) dX0_game_104 (by decide) ?_
          exact kj93 _ (by first | exact (if_pos c100).symm | exact (if_neg c100).symm)
  · skip
    refine j_iload dX0_game_49 rfl ?_
    refine j_iret dX0_game_51 rfl rfl (Nat.le_refl _) (Nat.le_refl _) ?_
    exact jr_i (if_pos c46).symm
set_option maxHeartbeats 4000000 in
theorem f_game2 {l : Launch} {D : va_G} {dT : Nat → ClassId} {H0 : Heap} {r : Nat → Nat} {nx : Nat} {g : j_H} {F : Nat → Nat} {V : Nat → Nat → Int32} {nk : Nat} (h60 : g 60 = some (rcell (.ref (r 61)) (r 62) nk)) {kd bs fg m : Nat} {ks : Nat → KY} (hK : fkK r dT g kd bs fg m nk ks) (v : Nat) (w : Int32) (hv : v < m) (hw : 0 ≤ w ∧ w ≤ 1) (hs : F 0 < 8 * m * m) : MC (gG l D dT H0) yX0_game cX0_game 7 (some .int) 13 0 0 [.ref (r 0), .int (nI v), .int 2, .int w] r (fkS r dT g F V) nx (jq_i (if w = 0 then (wth (fun k a => stk kd bs m (ks k) a) nk v 2 (decA m (F 0))) else gfst (fun k => if (stk kd bs m (ks k) (decA m (F 0))).2.2.1 = v then 1 else -(wth (fun k a => stk kd bs m (ks k) a) nk v 1 (stk kd bs m (ks k) (decA m (F 0))))) (wth (fun k a => stk kd bs m (ks k) a) nk v 2 (decA m (F 0))) nk 0) r (fkS r dT g F V) nx) := by
  obtain ⟨h61, hD, hkn, ka, h62, hks⟩ := id hK
  have hm := hD.pos
  have hm2 := hD.le
  have hmm := mm_le hm2
  refine MC.ofJ [some (.ref (r 0)), some (.int (nI v)), some (.int 2), some (.int w), none, none, none] rfl (Nat.le_of_ble_eq_true rfl) (by decide) ?_
  refine j_aload_n dX0_game_0 rfl ?_
  refine j_iload_n dX0_game_1 rfl ?_
  refine j_callVi (f_isNumber1 h60 h61 hm hm2 _) dX0_game_2 pmX0_isNumber q920 q922 qs17 (by first | rfl | assumption) rfl rfl rfl ⟨Nat.le_of_ble_eq_true rfl, Nat.le_of_ble_eq_true rfl⟩ ⟨Nat.le_of_ble_eq_true rfl, Nat.le_of_ble_eq_true rfl⟩ rfl (Nat.le_of_ble_eq_true rfl) ?_
  refine j_ifb_eq (tgt := 27) dX0_game_5 (by decide) (fun c5 => absurd (nI_inr hv (by omega)) c5) (fun c5 => ?_)
  refine j_iload_n dX0_game_8 rfl ?_
  refine j_iconst (v := 0) dX0_game_9 (by decide) ?_
  refine j_bipush (v := 6) dX0_game_10 (by decide) ?_
  refine j_callSi (c_X0_isIn _ _ _) dX0_game_12 pmX0_isIn q220 q221 rfl ⟨Nat.le_of_ble_eq_true rfl, Nat.le_of_ble_eq_true rfl⟩ ⟨Nat.le_of_ble_eq_true rfl, Nat.le_of_ble_eq_true rfl⟩ rfl (Nat.le_of_ble_eq_true rfl) ?_
  refine j_ifb_eq (tgt := 27) dX0_game_15 (by decide) (fun c15 => absurd (by decide) c15) (fun c15 => ?_)
  refine j_iload_n dX0_game_18 rfl ?_
  refine j_iconst (v := 0) dX0_game_19 (by decide) ?_
  refine j_iconst (v := 1) dX0_game_20 (by decide) ?_
  refine j_callSi (c_X0_isIn _ _ _) dX0_game_21 pmX0_isIn q220 q221 rfl ⟨Nat.le_of_ble_eq_true rfl, Nat.le_of_ble_eq_true rfl⟩ ⟨Nat.le_of_ble_eq_true rfl, Nat.le_of_ble_eq_true rfl⟩ rfl (Nat.le_of_ble_eq_true rfl) ?_
  refine j_ifb_ne (tgt := 30) dX0_game_24 (by decide) (fun c24 => ?_) (fun c24 => absurd hw c24)
  refine j_aload_n dX0_game_30 rfl ?_
  refine j_aload_n dX0_game_31 rfl ?_
  refine j_get 1 dX0_game_32 (by first | rfl | assumption) in_X0 rfl (by decide) q154 rfl ?_
  refine j_getN 0 dX0_game_35 (by first | rfl | assumption) in_X2 rfl (by decide) (fun _ hs => hs.1 _ qn125) rfl ?_
  refine j_iload_n dX0_game_38 rfl ?_
  refine j_iload_n dX0_game_39 rfl ?_
  refine j_callVi (f_worth2 h60 hK (F 0) v hv hs) dX0_game_40 pmX0_worth q1046 q1048 qs26 (by first | rfl | assumption) rfl rfl rfl ⟨Nat.le_of_ble_eq_true rfl, Nat.le_of_ble_eq_true rfl⟩ ⟨Nat.le_of_ble_eq_true rfl, Nat.le_of_ble_eq_true rfl⟩ rfl (Nat.le_of_ble_eq_true rfl) ?_
  refine j_istore dX0_game_43 (by decide) rfl ?_
  refine j_iload_n dX0_game_45 rfl ?_
  refine j_if_ne (tgt := 52) dX0_game_46 (by decide) (fun c46 => ?_) (fun c46 => ?_)
  · skip
    refine j_iconst (v := 0) dX0_game_52 (by decide) ?_
    refine j_istore dX0_game_53 (by decide) rfl ?_
    refine j_re (L' := [some (.ref (r 0)), some (.int (nI v)), some (.int 2), some (.int w), some (.int (wth (fun k a => stk kd bs m (ks k) a) nk v 2 (decA m (F 0)))), some (.int (nI 0)), none]) rfl rfl rfl ?_
    refine j_lp1 (fun (k : Nat) => fkS r dT g F V) (fun k => [some (.ref (r 0)), some (.int (nI v)), some (.int 2), some (.int w), some (.int (wth (fun k a => stk kd bs m (ks k) a) nk v 2 (decA m (F 0)))), some (.int (nI k)), none]) (fun k => k ≤ nk ∧ gfst (fun k => if (stk kd bs m (ks k) (decA m (F 0))).2.2.1 = v then 1 else -(wth (fun k a => stk kd bs m (ks k) a) nk v 1 (stk kd bs m (ks k) (decA m (F 0))))) (wth (fun k a => stk kd bs m (ks k) a) nk v 2 (decA m (F 0))) (nk - k) k = gfst (fun k => if (stk kd bs m (ks k) (decA m (F 0))).2.2.1 = v then 1 else -(wth (fun k a => stk kd bs m (ks k) a) nk v 1 (stk kd bs m (ks k) (decA m (F 0))))) (wth (fun k a => stk kd bs m (ks k) a) nk v 2 (decA m (F 0))) nk 0) (fun k => nk - k) ?_ 0 ⟨Nat.zero_le _, rfl⟩
    intro k ⟨hkK, hgf⟩ ih
    refine j_iload dX0_game_55 rfl ?_
    refine j_aload_n dX0_game_57 rfl ?_
    refine j_get 0 dX0_game_58 (by first | rfl | assumption) in_X0 rfl (by decide) q153 rfl ?_
    refine j_getN 2 dX0_game_61 (by first | rfl | assumption) in_X1 rfl (by decide) (fun _ hs => hs.1 _ qn109) rfl ?_
    refine j_icmp_ge (tgt := 132) dX0_game_64 (by decide) (fun c64 => ?_) (fun c64 => ?_)
    · skip
      have hkk : k = nk := by
        have := (nI_leI (by omega) (by omega)).mp c64
        omega
      rw [hkk, Nat.sub_self, gfst] at hgf
      refine j_iconst (v := (-1)) dX0_game_132 (by decide) ?_
      refine j_iret dX0_game_133 rfl rfl (Nat.le_refl _) (Nat.le_refl _) ?_
      refine jr_i ?_
      rw [if_neg c46]
      exact hgf
    · skip
      have hkK2 : k < nk := Nat.lt_of_not_le (fun q => c64 (nI_le q (by omega)))
      rw [show nk - k = (nk - (k + 1)) + 1 by omega, gfst] at hgf
      have hox : okA m (stk kd bs m (ks k) (decA m (F 0))) := stk_ok hD (hks k hkK2).2.2 (decA_ok hm hs)
      have hxl := encA_lt hox
      refine j_iload_n dX0_game_67 rfl ?_
      refine j_if_le (tgt := 132) dX0_game_68 (by decide) (fun c68 => absurd c68 (by decide)) (fun c68 => ?_)
      refine j_aload_n dX0_game_71 rfl ?_
      refine j_get 0 dX0_game_72 (by first | rfl | assumption) in_X0 rfl (by decide) q153 rfl ?_
      refine j_getN 1 dX0_game_75 (by first | rfl | assumption) in_X1 rfl (by decide) (fun _ hs => hs.1 _ qn107) rfl ?_
      refine j_iload dX0_game_78 rfl ?_
      refine j_aald (w := .ref (r (k + 63))) 4 k dX0_game_80 (by first | rfl | assumption) rfl rfl rfl (by omega) (by decide) (by rw [(hks _ hkK2).1]; rfl) ?_
      refine j_aload_n dX0_game_81 rfl ?_
      refine j_get 1 dX0_game_82 (by first | rfl | assumption) in_X0 rfl (by decide) q154 rfl ?_
      refine j_getN 0 dX0_game_85 (by first | rfl | assumption) in_X2 rfl (by decide) (fun _ hs => hs.1 _ qn125) rfl ?_
      refine j_strike (i := 61) (q := ks k) dX0_game_88 (by exact (hks k hkK2).2.1) (by exact h61) hD (hks k hkK2).2.2 hs ⟨Nat.le_of_ble_eq_true rfl, Nat.le_of_ble_eq_true rfl, Nat.le_of_ble_eq_true rfl, Nat.le_of_ble_eq_true rfl⟩ (Nat.le_of_ble_eq_true rfl) ?_
      refine j_eqi (show _ = nI (encA m (stk kd bs m (ks k) (decA m (F 0)))) from rfl) ?_
      refine j_istore dX0_game_91 (by decide) rfl ?_
      refine j_join (tgt := 118) (fun x => x = (fun k => if (stk kd bs m (ks k) (decA m (F 0))).2.2.1 = v then 1 else -(wth (fun k a => stk kd bs m (ks k) a) nk v 1 (stk kd bs m (ks k) (decA m (F 0))))) k) (fun v93 hv93 => ?_) (fun kj93 => ?_)
      · skip
        subst hv93
        refine j_iload dX0_game_118 rfl ?_
        refine j_icmp_ne (tgt := 126) dX0_game_120 (by decide) (fun c120 => ?_) (fun c120 => ?_)
        · skip
          rw [if_neg c120] at hgf
          refine j_iinc dX0_game_126 rfl (by decide) rfl ?_
          refine j_goto (tgt := 55) dX0_game_129 (by decide) ?_
          refine j_less (L' := [some (.ref (r 0)), some (.int (nI v)), some (.int 2), some (.int w), some (.int (wth (fun k a => stk kd bs m (ks k) a) nk v 2 (decA m (F 0)))), some (.int (nI (k + 1))), none]) ⟨Or.inr rfl, Or.inr rfl, Or.inr rfl, Or.inr rfl, Or.inr rfl, Or.inr (by rw [← nI_inc]), Or.inl rfl, trivial⟩ ?_
          exact ih (k + 1) ⟨by omega, hgf⟩ (by omega)
        · skip
          rw [if_pos c120] at hgf
          refine j_iload dX0_game_123 rfl ?_
          refine j_iret dX0_game_125 rfl rfl (Nat.le_refl _) (Nat.le_refl _) ?_
          refine jr_i ?_
          rw [if_neg c46]
          exact hgf
      · skip
        refine j_aload_n dX0_game_93 rfl ?_
        refine j_iload dX0_game_94 rfl ?_
        refine j_callVi (f_shown1 h60 h61 hm hm2 (encA m (stk kd bs m (ks k) (decA m (F 0)))) (by omega)) dX0_game_96 pmX0_shown q771 q773 qs14 (by first | rfl | assumption) rfl rfl rfl ⟨Nat.le_of_ble_eq_true rfl, Nat.le_of_ble_eq_true rfl⟩ ⟨Nat.le_of_ble_eq_true rfl, Nat.le_of_ble_eq_true rfl⟩ rfl (Nat.le_of_ble_eq_true rfl) ?_
        refine j_eqi (show _ = nI (stk kd bs m (ks k) (decA m (F 0))).2.2.1 from congrArg nI (by show sS m (enc m (stk kd bs m (ks k) (decA m (F 0))).1 (stk kd bs m (ks k) (decA m (F 0))).2.1 (stk kd bs m (ks k) (decA m (F 0))).2.2.1 (stk kd bs m (ks k) (decA m (F 0))).2.2.2) = _; exact sS_enc hox.2.2.1 hox.2.2.2)) ?_
        refine j_iload_n dX0_game_99 rfl ?_
        refine j_icmp_ne (tgt := 107) dX0_game_100 (by decide) (fun c100 => ?_) (fun c100 => ?_)
        · skip
          have c100 : ¬ (stk kd bs m (ks k) (decA m (F 0))).2.2.1 = v := fun q => c100 (by rw [q])
          refine j_aload_n dX0_game_107 rfl ?_
          refine j_iload dX0_game_108 rfl ?_
          refine j_iload_n dX0_game_110 rfl ?_
          refine j_iload_n dX0_game_111 rfl ?_
          refine j_iconst (v := 1) dX0_game_112 (by decide) ?_
          refine j_isub dX0_game_113 ?_
          refine j_eqi (show _ = (1 : Int32) by decide) ?_
          refine j_callVi (f_worth1 h60 hK (encA m (stk kd bs m (ks k) (decA m (F 0)))) v hv hxl) dX0_game_114 pmX0_worth q1046 q1048 qs26 (by first | rfl | assumption) rfl rfl rfl ⟨Nat.le_of_ble_eq_true rfl, Nat.le_of_ble_eq_true rfl⟩ ⟨Nat.le_of_ble_eq_true rfl, Nat.le_of_ble_eq_true rfl⟩ rfl (Nat.le_of_ble_eq_true rfl) ?_
          refine j_eqi (show _ = wth (fun k a => stk kd bs m (ks k) a) nk v 1 (stk kd bs m (ks k) (decA m (F 0))) by rw [decA_encA hox]) ?_
          refine j_ineg dX0_game_117 ?_
          exact kj93 _ (by first | exact (if_pos c100).symm | exact (if_neg c100).symm)
        · skip
          have c100 : (stk kd bs m (ks k) (decA m (F 0))).2.2.1 = v := (nI_eq (by have := hox.2.2.1; omega) (by omega)).mp c100
          refine j_iconst (v := 1) dX0_game_103 (by decide) ?_
          refine j_goto (tgt := 118) dX0_game_104 (by decide) ?_
          exact kj93 _ (by first | exact (if_pos c100).symm | exact (if_neg c100).symm)
  · skip
    refine j_iload dX0_game_49 rfl ?_
    refine j_iret dX0_game_51 rfl rfl (Nat.le_refl _) (Nat.le_refl _) ?_
    exact jr_i (if_pos c46).symm
set_option maxHeartbeats 4000000 in
theorem f_game3 {l : Launch} {D : va_G} {dT : Nat → ClassId} {H0 : Heap} {r : Nat → Nat} {nx : Nat} {g : j_H} {F : Nat → Nat} {V : Nat → Nat → Int32} {nk : Nat} (h60 : g 60 = some (rcell (.ref (r 61)) (r 62) nk)) {kd bs fg m : Nat} {ks : Nat → KY} (hK : fkK r dT g kd bs fg m nk ks) (v : Nat) (w : Int32) (hv : v < m) (hw : 0 ≤ w ∧ w ≤ 1) (hs : F 0 < 8 * m * m) : MC (gG l D dT H0) yX0_game cX0_game 7 (some .int) 13 0 0 [.ref (r 0), .int (nI v), .int 3, .int w] r (fkS r dT g F V) nx (jq_i (if w = 0 then (wth (fun k a => stk kd bs m (ks k) a) nk v 3 (decA m (F 0))) else gfst (fun k => if (stk kd bs m (ks k) (decA m (F 0))).2.2.1 = v then 1 else -(wth (fun k a => stk kd bs m (ks k) a) nk v 2 (stk kd bs m (ks k) (decA m (F 0))))) (wth (fun k a => stk kd bs m (ks k) a) nk v 3 (decA m (F 0))) nk 0) r (fkS r dT g F V) nx) := by
  obtain ⟨h61, hD, hkn, ka, h62, hks⟩ := id hK
  have hm := hD.pos
  have hm2 := hD.le
  have hmm := mm_le hm2
  refine MC.ofJ [some (.ref (r 0)), some (.int (nI v)), some (.int 3), some (.int w), none, none, none] rfl (Nat.le_of_ble_eq_true rfl) (by decide) ?_
  refine j_aload_n dX0_game_0 rfl ?_
  refine j_iload_n dX0_game_1 rfl ?_
  refine j_callVi (f_isNumber1 h60 h61 hm hm2 _) dX0_game_2 pmX0_isNumber q920 q922 qs17 (by first | rfl | assumption) rfl rfl rfl ⟨Nat.le_of_ble_eq_true rfl, Nat.le_of_ble_eq_true rfl⟩ ⟨Nat.le_of_ble_eq_true rfl, Nat.le_of_ble_eq_true rfl⟩ rfl (Nat.le_of_ble_eq_true rfl) ?_
  refine j_ifb_eq (tgt := 27) dX0_game_5 (by decide) (fun c5 => absurd (nI_inr hv (by omega)) c5) (fun c5 => ?_)
  refine j_iload_n dX0_game_8 rfl ?_
  refine j_iconst (v := 0) dX0_game_9 (by decide) ?_
  refine j_bipush (v := 6) dX0_game_10 (by decide) ?_
  refine j_callSi (c_X0_isIn _ _ _) dX0_game_12 pmX0_isIn q220 q221 rfl ⟨Nat.le_of_ble_eq_true rfl, Nat.le_of_ble_eq_true rfl⟩ ⟨Nat.le_of_ble_eq_true rfl, Nat.le_of_ble_eq_true rfl⟩ rfl (Nat.le_of_ble_eq_true rfl) ?_
  refine j_ifb_eq (tgt := 27) dX0_game_15 (by decide) (fun c15 => absurd (by decide) c15) (fun c15 => ?_)
  refine j_iload_n dX0_game_18 rfl ?_
  refine j_iconst (v := 0) dX0_game_19 (by decide) ?_
  refine j_iconst (v := 1) dX0_game_20 (by decide) ?_
  refine j_callSi (c_X0_isIn _ _ _) dX0_game_21 pmX0_isIn q220 q221 rfl ⟨Nat.le_of_ble_eq_true rfl, Nat.le_of_ble_eq_true rfl⟩ ⟨Nat.le_of_ble_eq_true rfl, Nat.le_of_ble_eq_true rfl⟩ rfl (Nat.le_of_ble_eq_true rfl) ?_
  refine j_ifb_ne (tgt := 30) dX0_game_24 (by decide) (fun c24 => ?_) (fun c24 => absurd hw c24)
  refine j_aload_n dX0_game_30 rfl ?_
  refine j_aload_n dX0_game_31 rfl ?_
  refine j_get 1 dX0_game_32 (by first | rfl | assumption) in_X0 rfl (by decide) q154 rfl ?_
  refine j_getN 0 dX0_game_35 (by first | rfl | assumption) in_X2 rfl (by decide) (fun _ hs => hs.1 _ qn125) rfl ?_
  refine j_iload_n dX0_game_38 rfl ?_
  refine j_iload_n dX0_game_39 rfl ?_
  refine j_callVi (f_worth3 h60 hK (F 0) v hv hs) dX0_game_40 pmX0_worth q1046 q1048 qs26 (by first | rfl | assumption) rfl rfl rfl ⟨Nat.le_of_ble_eq_true rfl, Nat.le_of_ble_eq_true rfl⟩ ⟨Nat.le_of_ble_eq_true rfl, Nat.le_of_ble_eq_true rfl⟩ rfl (Nat.le_of_ble_eq_true rfl) ?_
  refine j_istore dX0_game_43 (by decide) rfl ?_
  refine j_iload_n dX0_game_45 rfl ?_
  refine j_if_ne (tgt := 52) dX0_game_46 (by decide) (fun c46 => ?_) (fun c46 => ?_)
  · skip
    refine j_iconst (v := 0) dX0_game_52 (by decide) ?_
    refine j_istore dX0_game_53 (by decide) rfl ?_
    refine j_re (L' := [some (.ref (r 0)), some (.int (nI v)), some (.int 3), some (.int w), some (.int (wth (fun k a => stk kd bs m (ks k) a) nk v 3 (decA m (F 0)))), some (.int (nI 0)), none]) rfl rfl rfl ?_
    refine j_lp1 (fun (k : Nat) => fkS r dT g F V) (fun k => [some (.ref (r 0)), some (.int (nI v)), some (.int 3), some (.int w), some (.int (wth (fun k a => stk kd bs m (ks k) a) nk v 3 (decA m (F 0)))), some (.int (nI k)), none]) (fun k => k ≤ nk ∧ gfst (fun k => if (stk kd bs m (ks k) (decA m (F 0))).2.2.1 = v then 1 else -(wth (fun k a => stk kd bs m (ks k) a) nk v 2 (stk kd bs m (ks k) (decA m (F 0))))) (wth (fun k a => stk kd bs m (ks k) a) nk v 3 (decA m (F 0))) (nk - k) k = gfst (fun k => if (stk kd bs m (ks k) (decA m (F 0))).2.2.1 = v then 1 else -(wth (fun k a => stk kd bs m (ks k) a) nk v 2 (stk kd bs m (ks k) (decA m (F 0))))) (wth (fun k a => stk kd bs m (ks k) a) nk v 3 (decA m (F 0))) nk 0) (fun k => nk - k) ?_ 0 ⟨Nat.zero_le _, rfl⟩
    intro k ⟨hkK, hgf⟩ ih
    refine j_iload dX0_game_55 rfl ?_
    refine j_aload_n dX0_game_57 rfl ?_
    refine j_get 0 dX0_game_58 (by first | rfl | assumption) in_X0 rfl (by decide) q153 rfl ?_
    refine j_getN 2 dX0_game_61 (by first | rfl | assumption) in_X1 rfl (by decide) (fun _ hs => hs.1 _ qn109) rfl ?_
    refine j_icmp_ge (tgt := 132) dX0_game_64 (by decide) (fun c64 => ?_) (fun c64 => ?_)
    · skip
      have hkk : k = nk := by
        have := (nI_leI (by omega) (by omega)).mp c64
        omega
      rw [hkk, Nat.sub_self, gfst] at hgf
      refine j_iconst (v := (-1)) dX0_game_132 (by decide) ?_
      refine j_iret dX0_game_133 rfl rfl (Nat.le_refl _) (Nat.le_refl _) ?_
      refine jr_i ?_
      rw [if_neg c46]
      exact hgf
    · skip
      have hkK2 : k < nk := Nat.lt_of_not_le (fun q => c64 (nI_le q (by omega)))
      rw [show nk - k = (nk - (k + 1)) + 1 by omega, gfst] at hgf
      have hox : okA m (stk kd bs m (ks k) (decA m (F 0))) := stk_ok hD (hks k hkK2).2.2 (decA_ok hm hs)
      have hxl := encA_lt hox
      refine j_iload_n dX0_game_67 rfl ?_
      refine j_if_le (tgt := 132) dX0_game_68 (by decide) (fun c68 => absurd c68 (by decide)) (fun c68 => ?_)
      refine j_aload_n dX0_game_71 rfl ?_
      refine j_get 0 dX0_game_72 (by first | rfl | assumption) in_X0 rfl (by decide) q153 rfl ?_
      refine j_getN 1 dX0_game_75 (by first | rfl | assumption) in_X1 rfl (by decide) (fun _ hs => hs.1 _ qn107) rfl ?_
      refine j_iload dX0_game_78 rfl ?_
      refine j_aald (w := .ref (r (k + 63))) 4 k dX0_game_80 (by first | rfl | assumption) rfl rfl rfl (by omega) (by decide) (by rw [(hks _ hkK2).1]; rfl) ?_
      refine j_aload_n dX0_game_81 rfl ?_
      refine j_get 1 dX0_game_82 (by first | rfl | assumption) in_X0 rfl (by decide) q154 rfl ?_
      refine j_getN 0 dX0_game_85 (by first | rfl | assumption) in_X2 rfl (by decide) (fun _ hs => hs.1 _ qn125) rfl ?_
      refine j_strike (i := 61) (q := ks k) dX0_game_88 (by exact (hks k hkK2).2.1) (by exact h61) hD (hks k hkK2).2.2 hs ⟨Nat.le_of_ble_eq_true rfl, Nat.le_of_ble_eq_true rfl, Nat.le_of_ble_eq_true rfl, Nat.le_of_ble_eq_true rfl⟩ (Nat.le_of_ble_eq_true rfl) ?_
      refine j_eqi (show _ = nI (encA m (stk kd bs m (ks k) (decA m (F 0)))) from rfl) ?_
      refine j_istore dX0_game_91 (by decide) rfl ?_
      refine j_join (tgt := 118) (fun x => x = (fun k => if (stk kd bs m (ks k) (decA m (F 0))).2.2.1 = v then 1 else -(wth (fun k a => stk kd bs m (ks k) a) nk v 2 (stk kd bs m (ks k) (decA m (F 0))))) k) (fun v93 hv93 => ?_) (fun kj93 => ?_)
      · skip
        subst hv93
        refine j_iload dX0_game_118 rfl ?_
        refine j_icmp_ne (tgt := 126) dX0_game_120 (by decide) (fun c120 => ?_) (fun c120 => ?_)
        · skip
          rw [if_neg c120] at hgf
          refine j_iinc dX0_game_126 rfl (by decide) rfl ?_
          refine j_goto (tgt := 55) dX0_game_129 (by decide) ?_
          refine j_less (L' := [some (.ref (r 0)), some (.int (nI v)), some (.int 3), some (.int w), some (.int (wth (fun k a => stk kd bs m (ks k) a) nk v 3 (decA m (F 0)))), some (.int (nI (k + 1))), none]) ⟨Or.inr rfl, Or.inr rfl, Or.inr rfl, Or.inr rfl, Or.inr rfl, Or.inr (by rw [← nI_inc]), Or.inl rfl, trivial⟩ ?_
          exact ih (k + 1) ⟨by omega, hgf⟩ (by omega)
        · skip
          rw [if_pos c120] at hgf
          refine j_iload dX0_game_123 rfl ?_
          refine j_iret dX0_game_125 rfl rfl (Nat.le_refl _) (Nat.le_refl _) ?_
          refine jr_i ?_
          rw [if_neg c46]
          exact hgf
      · skip
        refine j_aload_n dX0_game_93 rfl ?_
        refine j_iload dX0_game_94 rfl ?_
        refine j_callVi (f_shown1 h60 h61 hm hm2 (encA m (stk kd bs m (ks k) (decA m (F 0)))) (by omega)) dX0_game_96 pmX0_shown q771 q773 qs14 (by first | rfl | assumption) rfl rfl rfl ⟨Nat.le_of_ble_eq_true rfl, Nat.le_of_ble_eq_true rfl⟩ ⟨Nat.le_of_ble_eq_true rfl, Nat.le_of_ble_eq_true rfl⟩ rfl (Nat.le_of_ble_eq_true rfl) ?_
        refine j_eqi (show _ = nI (stk kd bs m (ks k) (decA m (F 0))).2.2.1 from congrArg nI (by show sS m (enc m (stk kd bs m (ks k) (decA m (F 0))).1 (stk kd bs m (ks k) (decA m (F 0))).2.1 (stk kd bs m (ks k) (decA m (F 0))).2.2.1 (stk kd bs m (ks k) (decA m (F 0))).2.2.2) = _; exact sS_enc hox.2.2.1 hox.2.2.2)) ?_
        refine j_iload_n dX0_game_99 rfl ?_
        refine j_icmp_ne (tgt := 107) dX0_game_100 (by decide) (fun c100 => ?_) (fun c100 => ?_)
        · skip
          have c100 : ¬ (stk kd bs m (ks k) (decA m (F 0))).2.2.1 = v := fun q => c100 (by rw [q])
          refine j_aload_n dX0_game_107 rfl ?_
          refine j_iload dX0_game_108 rfl ?_
          refine j_iload_n dX0_game_110 rfl ?_
          refine j_iload_n dX0_game_111 rfl ?_
          refine j_iconst (v := 1) dX0_game_112 (by decide) ?_
          refine j_isub dX0_game_113 ?_
          refine j_eqi (show _ = (2 : Int32) by decide) ?_
          refine j_callVi (f_worth2 h60 hK (encA m (stk kd bs m (ks k) (decA m (F 0)))) v hv hxl) dX0_game_114 pmX0_worth q1046 q1048 qs26 (by first | rfl | assumption) rfl rfl rfl ⟨Nat.le_of_ble_eq_true rfl, Nat.le_of_ble_eq_true rfl⟩ ⟨Nat.le_of_ble_eq_true rfl, Nat.le_of_ble_eq_true rfl⟩ rfl (Nat.le_of_ble_eq_true rfl) ?_
          refine j_eqi (show _ = wth (fun k a => stk kd bs m (ks k) a) nk v 2 (stk kd bs m (ks k) (decA m (F 0))) by rw [decA_encA hox]) ?_
          refine j_ineg dX0_game_117 ?_
          exact kj93 _ (by first | exact (if_pos c100).symm | exact (if_neg c100).symm)
        · skip
          have c100 : (stk kd bs m (ks k) (decA m (F 0))).2.2.1 = v := (nI_eq (by have := hox.2.2.1; omega) (by omega)).mp c100
          refine j_iconst (v := 1) dX0_game_103 (by decide) ?_
          refine j_goto (tgt := 118) dX0_game_104 (by decide) ?_
          exact kj93 _ (by first | exact (if_pos c100).symm | exact (if_neg c100).symm)
  · skip
    refine j_iload dX0_game_49 rfl ?_
    refine j_iret dX0_game_51 rfl rfl (Nat.le_refl _) (Nat.le_refl _) ?_
    exact jr_i (if_pos c46).symm
set_option maxHeartbeats 4000000 in
theorem f_game4 {l : Launch} {D : va_G} {dT : Nat → ClassId} {H0 : Heap} {r : Nat → Nat} {nx : Nat} {g : j_H} {F : Nat → Nat} {V : Nat → Nat → Int32} {nk : Nat} (h60 : g 60 = some (rcell (.ref (r 61)) (r 62) nk)) {kd bs fg m : Nat} {ks : Nat → KY} (hK : fkK r dT g kd bs fg m nk ks) (v : Nat) (w : Int32) (hv : v < m) (hw : 0 ≤ w ∧ w ≤ 1) (hs : F 0 < 8 * m * m) : MC (gG l D dT H0) yX0_game cX0_game 7 (some .int) 13 0 0 [.ref (r 0), .int (nI v), .int 4, .int w] r (fkS r dT g F V) nx (jq_i (if w = 0 then (wth (fun k a => stk kd bs m (ks k) a) nk v 4 (decA m (F 0))) else gfst (fun k => if (stk kd bs m (ks k) (decA m (F 0))).2.2.1 = v then 1 else -(wth (fun k a => stk kd bs m (ks k) a) nk v 3 (stk kd bs m (ks k) (decA m (F 0))))) (wth (fun k a => stk kd bs m (ks k) a) nk v 4 (decA m (F 0))) nk 0) r (fkS r dT g F V) nx) := by
  obtain ⟨h61, hD, hkn, ka, h62, hks⟩ := id hK
  have hm := hD.pos
  have hm2 := hD.le
  have hmm := mm_le hm2
  refine MC.ofJ [some (.ref (r 0)), some (.int (nI v)), some (.int 4), some (.int w), none, none, none] rfl (Nat.le_of_ble_eq_true rfl) (by decide) ?_
  refine j_aload_n dX0_game_0 rfl ?_
  refine j_iload_n dX0_game_1 rfl ?_
  refine j_callVi (f_isNumber1 h60 h61 hm hm2 _) dX0_game_2 pmX0_isNumber q920 q922 qs17 (by first | rfl | assumption) rfl rfl rfl ⟨Nat.le_of_ble_eq_true rfl, Nat.le_of_ble_eq_true rfl⟩ ⟨Nat.le_of_ble_eq_true rfl, Nat.le_of_ble_eq_true rfl⟩ rfl (Nat.le_of_ble_eq_true rfl) ?_
  refine j_ifb_eq (tgt := 27) dX0_game_5 (by decide) (fun c5 => absurd (nI_inr hv (by omega)) c5) (fun c5 => ?_)
  refine j_iload_n dX0_game_8 rfl ?_
  refine j_iconst (v := 0) dX0_game_9 (by decide) ?_
  refine j_bipush (v := 6) dX0_game_10 (by decide) ?_
  refine j_callSi (c_X0_isIn _ _ _) dX0_game_12 pmX0_isIn q220 q221 rfl ⟨Nat.le_of_ble_eq_true rfl, Nat.le_of_ble_eq_true rfl⟩ ⟨Nat.le_of_ble_eq_true rfl, Nat.le_of_ble_eq_true rfl⟩ rfl (Nat.le_of_ble_eq_true rfl) ?_
  refine j_ifb_eq (tgt := 27) dX0_game_15 (by decide) (fun c15 => absurd (by decide) c15) (fun c15 => ?_)
  refine j_iload_n dX0_game_18 rfl ?_
  refine j_iconst (v := 0) dX0_game_19 (by decide) ?_
  refine j_iconst (v := 1) dX0_game_20 (by decide) ?_
  refine j_callSi (c_X0_isIn _ _ _) dX0_game_21 pmX0_isIn q220 q221 rfl ⟨Nat.le_of_ble_eq_true rfl, Nat.le_of_ble_eq_true rfl⟩ ⟨Nat.le_of_ble_eq_true rfl, Nat.le_of_ble_eq_true rfl⟩ rfl (Nat.le_of_ble_eq_true rfl) ?_
  refine j_ifb_ne (tgt := 30) dX0_game_24 (by decide) (fun c24 => ?_) (fun c24 => absurd hw c24)
  refine j_aload_n dX0_game_30 rfl ?_
  refine j_aload_n dX0_game_31 rfl ?_
  refine j_get 1 dX0_game_32 (by first | rfl | assumption) in_X0 rfl (by decide) q154 rfl ?_
  refine j_getN 0 dX0_game_35 (by first | rfl | assumption) in_X2 rfl (by decide) (fun _ hs => hs.1 _ qn125) rfl ?_
  refine j_iload_n dX0_game_38 rfl ?_
  refine j_iload_n dX0_game_39 rfl ?_
  refine j_callVi (f_worth4 h60 hK (F 0) v hv hs) dX0_game_40 pmX0_worth q1046 q1048 qs26 (by first | rfl | assumption) rfl rfl rfl ⟨Nat.le_of_ble_eq_true rfl, Nat.le_of_ble_eq_true rfl⟩ ⟨Nat.le_of_ble_eq_true rfl, Nat.le_of_ble_eq_true rfl⟩ rfl (Nat.le_of_ble_eq_true rfl) ?_
  refine j_istore dX0_game_43 (by decide) rfl ?_
  refine j_iload_n dX0_game_45 rfl ?_
  refine j_if_ne (tgt := 52) dX0_game_46 (by decide) (fun c46 => ?_) (fun c46 => ?_)
  · skip
    refine j_iconst (v := 0) dX0_game_52 (by decide) ?_
    refine j_istore dX0_game_53 (by decide) rfl ?_
    refine j_re (L' := [some (.ref (r 0)), some (.int (nI v)), some (.int 4), some (.int w), some (.int (wth (fun k a => stk kd bs m (ks k) a) nk v 4 (decA m (F 0)))), some (.int (nI 0)), none]) rfl rfl rfl ?_
    refine j_lp1 (fun (k : Nat) => fkS r dT g F V) (fun k => [some (.ref (r 0)), some (.int (nI v)), some (.int 4), some (.int w), some (.int (wth (fun k a => stk kd bs m (ks k) a) nk v 4 (decA m (F 0)))), some (.int (nI k)), none]) (fun k => k ≤ nk ∧ gfst (fun k => if (stk kd bs m (ks k) (decA m (F 0))).2.2.1 = v then 1 else -(wth (fun k a => stk kd bs m (ks k) a) nk v 3 (stk kd bs m (ks k) (decA m (F 0))))) (wth (fun k a => stk kd bs m (ks k) a) nk v 4 (decA m (F 0))) (nk - k) k = gfst (fun k => if (stk kd bs m (ks k) (decA m (F 0))).2.2.1 = v then 1 else -(wth (fun k a => stk kd bs m (ks k) a) nk v 3 (stk kd bs m (ks k) (decA m (F 0))))) (wth (fun k a => stk kd bs m (ks k) a) nk v 4 (decA m (F 0))) nk 0) (fun k => nk - k) ?_ 0 ⟨Nat.zero_le _, rfl⟩
    intro k ⟨hkK, hgf⟩ ih
    refine j_iload dX0_game_55 rfl ?_
    refine j_aload_n dX0_game_57 rfl ?_
    refine j_get 0 dX0_game_58 (by first | rfl | assumption) in_X0 rfl (by decide) q153 rfl ?_
    refine j_getN 2 dX0_game_61 (by first | rfl | assumption) in_X1 rfl (by decide) (fun _ hs => hs.1 _ qn109) rfl ?_
    refine j_icmp_ge (tgt := 132) dX0_game_64 (by decide) (fun c64 => ?_) (fun c64 => ?_)
    · skip
      have hkk : k = nk := by
        have := (nI_leI (by omega) (by omega)).mp c64
        omega
      rw [hkk, Nat.sub_self, gfst] at hgf
      refine j_iconst (v := (-1)) dX0_game_132 (by decide) ?_
      refine j_iret dX0_game_133 rfl rfl (Nat.le_refl _) (Nat.le_refl _) ?_
      refine jr_i ?_
      rw [if_neg c46]
      exact hgf
    · skip
      have hkK2 : k < nk := Nat.lt_of_not_le (fun q => c64 (nI_le q (by omega)))
      rw [show nk - k = (nk - (k + 1)) + 1 by omega, gfst] at hgf
      have hox : okA m (stk kd bs m (ks k) (decA m (F 0))) := stk_ok hD (hks k hkK2).2.2 (decA_ok hm hs)
      have hxl := encA_lt hox
      refine j_iload_n dX0_game_67 rfl ?_
      refine j_if_le (tgt := 132) dX0_game_68 (by decide) (fun c68 => absurd c68 (by decide)) (fun c68 => ?_)
      refine j_aload_n dX0_game_71 rfl ?_
      refine j_get 0 dX0_game_72 (by first | rfl | assumption) in_X0 rfl (by decide) q153 rfl ?_
      refine j_getN 1 dX0_game_75 (by first | rfl | assumption) in_X1 rfl (by decide) (fun _ hs => hs.1 _ qn107) rfl ?_
      refine j_iload dX0_game_78 rfl ?_
      refine j_aald (w := .ref (r (k + 63))) 4 k dX0_game_80 (by first | rfl | assumption) rfl rfl rfl (by omega) (by decide) (by rw [(hks _ hkK2).1]; rfl) ?_
      refine j_aload_n dX0_game_81 rfl ?_
      refine j_get 1 dX0_game_82 (by first | rfl | assumption) in_X0 rfl (by decide) q154 rfl ?_
      refine j_getN 0 dX0_game_85 (by first | rfl | assumption) in_X2 rfl (by decide) (fun _ hs => hs.1 _ qn125) rfl ?_
      refine j_strike (i := 61) (q := ks k) dX0_game_88 (by exact (hks k hkK2).2.1) (by exact h61) hD (hks k hkK2).2.2 hs ⟨Nat.le_of_ble_eq_true rfl, Nat.le_of_ble_eq_true rfl, Nat.le_of_ble_eq_true rfl, Nat.le_of_ble_eq_true rfl⟩ (Nat.le_of_ble_eq_true rfl) ?_
      refine j_eqi (show _ = nI (encA m (stk kd bs m (ks k) (decA m (F 0)))) from rfl) ?_
      refine j_istore dX0_game_91 (by decide) rfl ?_
      refine j_join (tgt := 118) (fun x => x = (fun k => if (stk kd bs m (ks k) (decA m (F 0))).2.2.1 = v then 1 else -(wth (fun k a => stk kd bs m (ks k) a) nk v 3 (stk kd bs m (ks k) (decA m (F 0))))) k) (fun v93 hv93 => ?_) (fun kj93 => ?_)
      · skip
        subst hv93
        refine j_iload dX0_game_118 rfl ?_
        refine j_icmp_ne (tgt := 126) dX0_game_120 (by decide) (fun c120 => ?_) (fun c120 => ?_)
        · skip
          rw [if_neg c120] at hgf
          refine j_iinc dX0_game_126 rfl (by decide) rfl ?_
          refine j_goto (tgt := 55) dX0_game_129 (by decide) ?_
          refine j_less (L' := [some (.ref (r 0)), some (.int (nI v)), some (.int 4), some (.int w), some (.int (wth (fun k a => stk kd bs m (ks k) a) nk v 4 (decA m (F 0)))), some (.int (nI (k + 1))), none]) ⟨Or.inr rfl, Or.inr rfl, Or.inr rfl, Or.inr rfl, Or.inr rfl, Or.inr (by rw [← nI_inc]), Or.inl rfl, trivial⟩ ?_
          exact ih (k + 1) ⟨by omega, hgf⟩ (by omega)
        · skip
          rw [if_pos c120] at hgf
          refine j_iload dX0_game_123 rfl ?_
          refine j_iret dX0_game_125 rfl rfl (Nat.le_refl _) (Nat.le_refl _) ?_
          refine jr_i ?_
          rw [if_neg c46]
          exact hgf
      · skip
        refine j_aload_n dX0_game_93 rfl ?_
        refine j_iload dX0_game_94 rfl ?_
        refine j_callVi (f_shown1 h60 h61 hm hm2 (encA m (stk kd bs m (ks k) (decA m (F 0)))) (by omega)) dX0_game_96 pmX0_shown q771 q773 qs14 (by first | rfl | assumption) rfl rfl rfl ⟨Nat.le_of_ble_eq_true rfl, Nat.le_of_ble_eq_true rfl⟩ ⟨Nat.le_of_ble_eq_true rfl, Nat.le_of_ble_eq_true rfl⟩ rfl (Nat.le_of_ble_eq_true rfl) ?_
        refine j_eqi (show _ = nI (stk kd bs m (ks k) (decA m (F 0))).2.2.1 from congrArg nI (by show sS m (enc m (stk kd bs m (ks k) (decA m (F 0))).1 (stk kd bs m (ks k) (decA m (F 0))).2.1 (stk kd bs m (ks k) (decA m (F 0))).2.2.1 (stk kd bs m (ks k) (decA m (F 0))).2.2.2) = _; exact sS_enc hox.2.2.1 hox.2.2.2)) ?_
        refine j_iload_n dX0_game_99 rfl ?_
        refine j_icmp_ne (tgt := 107) dX0_game_100 (by decide) (fun c100 => ?_) (fun c100 => ?_)
        · skip
          have c100 : ¬ (stk kd bs m (ks k) (decA m (F 0))).2.2.1 = v := fun q => c100 (by rw [q])
          refine j_aload_n dX0_game_107 rfl ?_
          refine j_iload dX0_game_108 rfl ?_
          refine j_iload_n dX0_game_110 rfl ?_
          refine j_iload_n dX0_game_111 rfl ?_
          refine j_iconst (v := 1) dX0_game_112 (by decide) ?_
          refine j_isub dX0_game_113 ?_
          refine j_eqi (show _ = (3 : Int32) by decide) ?_
          refine j_callVi (f_worth3 h60 hK (encA m (stk kd bs m (ks k) (decA m (F 0)))) v hv hxl) dX0_game_114 pmX0_worth q1046 q1048 qs26 (by first | rfl | assumption) rfl rfl rfl ⟨Nat.le_of_ble_eq_true rfl, Nat.le_of_ble_eq_true rfl⟩ ⟨Nat.le_of_ble_eq_true rfl, Nat.le_of_ble_eq_true rfl⟩ rfl (Nat.le_of_ble_eq_true rfl) ?_
          refine j_eqi (show _ = wth (fun k a => stk kd bs m (ks k) a) nk v 3 (stk kd bs m (ks k) (decA m (F 0))) by rw [decA_encA hox]) ?_
          refine j_ineg dX0_game_117 ?_
          exact kj93 _ (by first | exact (if_pos c100).symm | exact (if_neg c100).symm)
        · skip
          have c100 : (stk kd bs m (ks k) (decA m (F 0))).2.2.1 = v := (nI_eq (by have := hox.2.2.1; omega) (by omega)).mp c100
          refine j_iconst (v := 1) dX0_game_103 (by decide) ?_
          refine j_goto (tgt := 118) dX0_game_104 (by decide) ?_
          exact kj93 _ (by first | exact (if_pos c100).symm | exact (if_neg c100).symm)
  · skip
    refine j_iload dX0_game_49 rfl ?_
    refine j_iret dX0_game_51 rfl rfl (Nat.le_refl _) (Nat.le_refl _) ?_
    exact jr_i (if_pos c46).symm
set_option maxHeartbeats 4000000 in
theorem f_game5 {l : Launch} {D : va_G} {dT : Nat → ClassId} {H0 : Heap} {r : Nat → Nat} {nx : Nat} {g : j_H} {F : Nat → Nat} {V : Nat → Nat → Int32} {nk : Nat} (h60 : g 60 = some (rcell (.ref (r 61)) (r 62) nk)) {kd bs fg m : Nat} {ks : Nat → KY} (hK : fkK r dT g kd bs fg m nk ks) (v : Nat) (w : Int32) (hv : v < m) (hw : 0 ≤ w ∧ w ≤ 1) (hs : F 0 < 8 * m * m) : MC (gG l D dT H0) yX0_game cX0_game 7 (some .int) 13 0 0 [.ref (r 0), .int (nI v), .int 5, .int w] r (fkS r dT g F V) nx (jq_i (if w = 0 then (wth (fun k a => stk kd bs m (ks k) a) nk v 5 (decA m (F 0))) else gfst (fun k => if (stk kd bs m (ks k) (decA m (F 0))).2.2.1 = v then 1 else -(wth (fun k a => stk kd bs m (ks k) a) nk v 4 (stk kd bs m (ks k) (decA m (F 0))))) (wth (fun k a => stk kd bs m (ks k) a) nk v 5 (decA m (F 0))) nk 0) r (fkS r dT g F V) nx) := by
  obtain ⟨h61, hD, hkn, ka, h62, hks⟩ := id hK
  have hm := hD.pos
  have hm2 := hD.le
  have hmm := mm_le hm2
  refine MC.ofJ [some (.ref (r 0)), some (.int (nI v)), some (.int 5), some (.int w), none, none, none] rfl (Nat.le_of_ble_eq_true rfl) (by decide) ?_
  refine j_aload_n dX0_game_0 rfl ?_
  refine j_iload_n dX0_game_1 rfl ?_
  refine j_callVi (f_isNumber1 h60 h61 hm hm2 _) dX0_game_2 pmX0_isNumber q920 q922 qs17 (by first | rfl | assumption) rfl rfl rfl ⟨Nat.le_of_ble_eq_true rfl, Nat.le_of_ble_eq_true rfl⟩ ⟨Nat.le_of_ble_eq_true rfl, Nat.le_of_ble_eq_true rfl⟩ rfl (Nat.le_of_ble_eq_true rfl) ?_
  refine j_ifb_eq (tgt := 27) dX0_game_5 (by decide) (fun c5 => absurd (nI_inr hv (by omega)) c5) (fun c5 => ?_)
  refine j_iload_n dX0_game_8 rfl ?_
  refine j_iconst (v := 0) dX0_game_9 (by decide) ?_
  refine j_bipush (v := 6) dX0_game_10 (by decide) ?_
  refine j_callSi (c_X0_isIn _ _ _) dX0_game_12 pmX0_isIn q220 q221 rfl ⟨Nat.le_of_ble_eq_true rfl, Nat.le_of_ble_eq_true rfl⟩ ⟨Nat.le_of_ble_eq_true rfl, Nat.le_of_ble_eq_true rfl⟩ rfl (Nat.le_of_ble_eq_true rfl) ?_
  refine j_ifb_eq (tgt := 27) dX0_game_15 (by decide) (fun c15 => absurd (by decide) c15) (fun c15 => ?_)
  refine j_iload_n dX0_game_18 rfl ?_
  refine j_iconst (v := 0) dX0_game_19 (by decide) ?_
  refine j_iconst (v := 1) dX0_game_20 (by decide) ?_
  refine j_callSi (c_X0_isIn _ _ _) dX0_game_21 pmX0_isIn q220 q221 rfl ⟨Nat.le_of_ble_eq_true rfl, Nat.le_of_ble_eq_true rfl⟩ ⟨Nat.le_of_ble_eq_true rfl, Nat.le_of_ble_eq_true rfl⟩ rfl (Nat.le_of_ble_eq_true rfl) ?_
  refine j_ifb_ne (tgt := 30) dX0_game_24 (by decide) (fun c24 => ?_) (fun c24 => absurd hw c24)
  refine j_aload_n dX0_game_30 rfl ?_
  refine j_aload_n dX0_game_31 rfl ?_
  refine j_get 1 dX0_game_32 (by first | rfl | assumption) in_X0 rfl (by decide) q154 rfl ?_
  refine j_getN 0 dX0_game_35 (by first | rfl | assumption) in_X2 rfl (by decide) (fun _ hs => hs.1 _ qn125) rfl ?_
  refine j_iload_n dX0_game_38 rfl ?_
  refine j_iload_n dX0_game_39 rfl ?_
  refine j_callVi (f_worth5 h60 hK (F 0) v hv hs) dX0_game_40 pmX0_worth q1046 q1048 qs26 (by first | rfl | assumption) rfl rfl rfl ⟨Nat.le_of_ble_eq_true rfl, Nat.le_of_ble_eq_true rfl⟩ ⟨Nat.le_of_ble_eq_true rfl, Nat.le_of_ble_eq_true rfl⟩ rfl (Nat.le_of_ble_eq_true rfl) ?_
  refine j_istore dX0_game_43 (by decide) rfl ?_
  refine j_iload_n dX0_game_45 rfl ?_
  refine j_if_ne (tgt := 52) dX0_game_46 (by decide) (fun c46 => ?_) (fun c46 => ?_)
  · skip
    refine j_iconst (v := 0) dX0_game_52 (by decide) ?_
    refine j_istore dX0_game_53 (by decide) rfl ?_
    refine j_re (L' := [some (.ref (r 0)), some (.int (nI v)), some (.int 5), some (.int w), some (.int (wth (fun k a => stk kd bs m (ks k) a) nk v 5 (decA m (F 0)))), some (.int (nI 0)), none]) rfl rfl rfl ?_
    refine j_lp1 (fun (k : Nat) => fkS r dT g F V) (fun k => [some (.ref (r 0)), some (.int (nI v)), some (.int 5), some (.int w), some (.int (wth (fun k a => stk kd bs m (ks k) a) nk v 5 (decA m (F 0)))), some (.int (nI k)), none]) (fun k => k ≤ nk ∧ gfst (fun k => if (stk kd bs m (ks k) (decA m (F 0))).2.2.1 = v then 1 else -(wth (fun k a => stk kd bs m (ks k) a) nk v 4 (stk kd bs m (ks k) (decA m (F 0))))) (wth (fun k a => stk kd bs m (ks k) a) nk v 5 (decA m (F 0))) (nk - k) k = gfst (fun k => if (stk kd bs m (ks k) (decA m (F 0))).2.2.1 = v then 1 else -(wth (fun k a => stk kd bs m (ks k) a) nk v 4 (stk kd bs m (ks k) (decA m (F 0))))) (wth (fun k a => stk kd bs m (ks k) a) nk v 5 (decA m (F 0))) nk 0) (fun k => nk - k) ?_ 0 ⟨Nat.zero_le _, rfl⟩
    intro k ⟨hkK, hgf⟩ ih
    refine j_iload dX0_game_55 rfl ?_
    refine j_aload_n dX0_game_57 rfl ?_
    refine j_get 0 dX0_game_58 (by first | rfl | assumption) in_X0 rfl (by decide) q153 rfl ?_
    refine j_getN 2 dX0_game_61 (by first | rfl | assumption) in_X1 rfl (by decide) (fun _ hs => hs.1 _ qn109) rfl ?_
    refine j_icmp_ge (tgt := 132) dX0_game_64 (by decide) (fun c64 => ?_) (fun c64 => ?_)
    · skip
      have hkk : k = nk := by
        have := (nI_leI (by omega) (by omega)).mp c64
        omega
      rw [hkk, Nat.sub_self, gfst] at hgf
      refine j_iconst (v := (-1)) dX0_game_132 (by decide) ?_
      refine j_iret dX0_game_133 rfl rfl (Nat.le_refl _) (Nat.le_refl _) ?_
      refine jr_i ?_
      rw [if_neg c46]
      exact hgf
    · skip
      have hkK2 : k < nk := Nat.lt_of_not_le (fun q => c64 (nI_le q (by omega)))
      rw [show nk - k = (nk - (k + 1)) + 1 by omega, gfst] at hgf
      have hox : okA m (stk kd bs m (ks k) (decA m (F 0))) := stk_ok hD (hks k hkK2).2.2 (decA_ok hm hs)
      have hxl := encA_lt hox
      refine j_iload_n dX0_game_67 rfl ?_
      refine j_if_le (tgt := 132) dX0_game_68 (by decide) (fun c68 => absurd c68 (by decide)) (fun c68 => ?_)
      refine j_aload_n dX0_game_71 rfl ?_
      refine j_get 0 dX0_game_72 (by first | rfl | assumption) in_X0 rfl (by decide) q153 rfl ?_
      refine j_getN 1 dX0_game_75 (by first | rfl | assumption) in_X1 rfl (by decide) (fun _ hs => hs.1 _ qn107) rfl ?_
      refine j_iload dX0_game_78 rfl ?_
      refine j_aald (w := .ref (r (k + 63))) 4 k dX0_game_80 (by first | rfl | assumption) rfl rfl rfl (by omega) (by decide) (by rw [(hks _ hkK2).1]; rfl) ?_
      refine j_aload_n dX0_game_81 rfl ?_
      refine j_get 1 dX0_game_82 (by first | rfl | assumption) in_X0 rfl (by decide) q154 rfl ?_
      refine j_getN 0 dX0_game_85 (by first | rfl | assumption) in_X2 rfl (by decide) (fun _ hs => hs.1 _ qn125) rfl ?_
      refine j_strike (i := 61) (q := ks k) dX0_game_88 (by exact (hks k hkK2).2.1) (by exact h61) hD (hks k hkK2).2.2 hs ⟨Nat.le_of_ble_eq_true rfl, Nat.le_of_ble_eq_true rfl, Nat.le_of_ble_eq_true rfl, Nat.le_of_ble_eq_true rfl⟩ (Nat.le_of_ble_eq_true rfl) ?_
      refine j_eqi (show _ = nI (encA m (stk kd bs m (ks k) (decA m (F 0)))) from rfl) ?_
      refine j_istore dX0_game_91 (by decide) rfl ?_
      refine j_join (tgt := 118) (fun x => x = (fun k => if (stk kd bs m (ks k) (decA m (F 0))).2.2.1 = v then 1 else -(wth (fun k a => stk kd bs m (ks k) a) nk v 4 (stk kd bs m (ks k) (decA m (F 0))))) k) (fun v93 hv93 => ?_) (fun kj93 => ?_)
      · skip
        subst hv93
        refine j_iload dX0_game_118 rfl ?_
        refine j_icmp_ne (tgt := 126) dX0_game_120 (by decide) (fun c120 => ?_) (fun c120 => ?_)
        · skip
          rw [if_neg c120] at hgf
          refine j_iinc dX0_game_126 rfl (by decide) rfl ?_
          refine j_goto (tgt := 55) dX0_game_129 (by decide) ?_
          refine j_less (L' := [some (.ref (r 0)), some (.int (nI v)), some (.int 5), some (.int w), some (.int (wth (fun k a => stk kd bs m (ks k) a) nk v 5 (decA m (F 0)))), some (.int (nI (k + 1))), none]) ⟨Or.inr rfl, Or.inr rfl, Or.inr rfl, Or.inr rfl, Or.inr rfl, Or.inr (by rw [← nI_inc]), Or.inl rfl, trivial⟩ ?_
          exact ih (k + 1) ⟨by omega, hgf⟩ (by omega)
        · skip
          rw [if_pos c120] at hgf
          refine j_iload dX0_game_123 rfl ?_
          refine j_iret dX0_game_125 rfl rfl (Nat.le_refl _) (Nat.le_refl _) ?_
          refine jr_i ?_
          rw [if_neg c46]
          exact hgf
      · skip
        refine j_aload_n dX0_game_93 rfl ?_
        refine j_iload dX0_game_94 rfl ?_
        refine j_callVi (f_shown1 h60 h61 hm hm2 (encA m (stk kd bs m (ks k) (decA m (F 0)))) (by omega)) dX0_game_96 pmX0_shown q771 q773 qs14 (by first | rfl | assumption) rfl rfl rfl ⟨Nat.le_of_ble_eq_true rfl, Nat.le_of_ble_eq_true rfl⟩ ⟨Nat.le_of_ble_eq_true rfl, Nat.le_of_ble_eq_true rfl⟩ rfl (Nat.le_of_ble_eq_true rfl) ?_
        refine j_eqi (show _ = nI (stk kd bs m (ks k) (decA m (F 0))).2.2.1 from congrArg nI (by show sS m (enc m (stk kd bs m (ks k) (decA m (F 0))).1 (stk kd bs m (ks k) (decA m (F 0))).2.1 (stk kd bs m (ks k) (decA m (F 0))).2.2.1 (stk kd bs m (ks k) (decA m (F 0))).2.2.2) = _; exact sS_enc hox.2.2.1 hox.2.2.2)) ?_
        refine j_iload_n dX0_game_99 rfl ?_
        refine j_icmp_ne (tgt := 107) dX0_game_100 (by decide) (fun c100 => ?_) (fun c100 => ?_)
        · skip
          have c100 : ¬ (stk kd bs m (ks k) (decA m (F 0))).2.2.1 = v := fun q => c100 (by rw [q])
          refine j_aload_n dX0_game_107 rfl ?_
          refine j_iload dX0_game_108 rfl ?_
          refine j_iload_n dX0_game_110 rfl ?_
          refine j_iload_n dX0_game_111 rfl ?_
          refine j_iconst (v := 1) dX0_game_112 (by decide) ?_
          refine j_isub dX0_game_113 ?_
          refine j_eqi (show _ = (4 : Int32) by decide) ?_
          refine j_callVi (f_worth4 h60 hK (encA m (stk kd bs m (ks k) (decA m (F 0)))) v hv hxl) dX0_game_114 pmX0_worth q1046 q1048 qs26 (by first | rfl | assumption) rfl rfl rfl ⟨Nat.le_of_ble_eq_true rfl, Nat.le_of_ble_eq_true rfl⟩ ⟨Nat.le_of_ble_eq_true rfl, Nat.le_of_ble_eq_true rfl⟩ rfl (Nat.le_of_ble_eq_true rfl) ?_
          refine j_eqi (show _ = wth (fun k a => stk kd bs m (ks k) a) nk v 4 (stk kd bs m (ks k) (decA m (F 0))) by rw [decA_encA hox]) ?_
          refine j_ineg dX0_game_117 ?_
          exact kj93 _ (by first | exact (if_pos c100).symm | exact (if_neg c100).symm)
        · skip
          have c100 : (stk kd bs m (ks k) (decA m (F 0))).2.2.1 = v := (nI_eq (by have := hox.2.2.1; omega) (by omega)).mp c100
          refine j_iconst (v := 1) dX0_game_103 (by decide) ?_
          refine j_goto (tgt := 118) dX0_game_104 (by decide) ?_
          exact kj93 _ (by first | exact (if_pos c100).symm | exact (if_neg c100).symm)
  · skip
    refine j_iload dX0_game_49 rfl ?_
    refine j_iret dX0_game_51 rfl rfl (Nat.le_refl _) (Nat.le_refl _) ?_
    exact jr_i (if_pos c46).symm
set_option maxHeartbeats 4000000 in
theorem f_game6 {l : Launch} {D : va_G} {dT : Nat → ClassId} {H0 : Heap} {r : Nat → Nat} {nx : Nat} {g : j_H} {F : Nat → Nat} {V : Nat → Nat → Int32} {nk : Nat} (h60 : g 60 = some (rcell (.ref (r 61)) (r 62) nk)) {kd bs fg m : Nat} {ks : Nat → KY} (hK : fkK r dT g kd bs fg m nk ks) (v : Nat) (w : Int32) (hv : v < m) (hw : 0 ≤ w ∧ w ≤ 1) (hs : F 0 < 8 * m * m) : MC (gG l D dT H0) yX0_game cX0_game 7 (some .int) 13 0 0 [.ref (r 0), .int (nI v), .int 6, .int w] r (fkS r dT g F V) nx (jq_i (if w = 0 then (wth (fun k a => stk kd bs m (ks k) a) nk v 6 (decA m (F 0))) else gfst (fun k => if (stk kd bs m (ks k) (decA m (F 0))).2.2.1 = v then 1 else -(wth (fun k a => stk kd bs m (ks k) a) nk v 5 (stk kd bs m (ks k) (decA m (F 0))))) (wth (fun k a => stk kd bs m (ks k) a) nk v 6 (decA m (F 0))) nk 0) r (fkS r dT g F V) nx) := by
  obtain ⟨h61, hD, hkn, ka, h62, hks⟩ := id hK
  have hm := hD.pos
  have hm2 := hD.le
  have hmm := mm_le hm2
  refine MC.ofJ [some (.ref (r 0)), some (.int (nI v)), some (.int 6), some (.int w), none, none, none] rfl (Nat.le_of_ble_eq_true rfl) (by decide) ?_
  refine j_aload_n dX0_game_0 rfl ?_
  refine j_iload_n dX0_game_1 rfl ?_
  refine j_callVi (f_isNumber1 h60 h61 hm hm2 _) dX0_game_2 pmX0_isNumber q920 q922 qs17 (by first | rfl | assumption) rfl rfl rfl ⟨Nat.le_of_ble_eq_true rfl, Nat.le_of_ble_eq_true rfl⟩ ⟨Nat.le_of_ble_eq_true rfl, Nat.le_of_ble_eq_true rfl⟩ rfl (Nat.le_of_ble_eq_true rfl) ?_
  refine j_ifb_eq (tgt := 27) dX0_game_5 (by decide) (fun c5 => absurd (nI_inr hv (by omega)) c5) (fun c5 => ?_)
  refine j_iload_n dX0_game_8 rfl ?_
  refine j_iconst (v := 0) dX0_game_9 (by decide) ?_
  refine j_bipush (v := 6) dX0_game_10 (by decide) ?_
  refine j_callSi (c_X0_isIn _ _ _) dX0_game_12 pmX0_isIn q220 q221 rfl ⟨Nat.le_of_ble_eq_true rfl, Nat.le_of_ble_eq_true rfl⟩ ⟨Nat.le_of_ble_eq_true rfl, Nat.le_of_ble_eq_true rfl⟩ rfl (Nat.le_of_ble_eq_true rfl) ?_
  refine j_ifb_eq (tgt := 27) dX0_game_15 (by decide) (fun c15 => absurd (by decide) c15) (fun c15 => ?_)
  refine j_iload_n dX0_game_18 rfl ?_
  refine j_iconst (v := 0) dX0_game_19 (by decide) ?_
  refine j_iconst (v := 1) dX0_game_20 (by decide) ?_
  refine j_callSi (c_X0_isIn _ _ _) dX0_game_21 pmX0_isIn q220 q221 rfl ⟨Nat.le_of_ble_eq_true rfl, Nat.le_of_ble_eq_true rfl⟩ ⟨Nat.le_of_ble_eq_true rfl, Nat.le_of_ble_eq_true rfl⟩ rfl (Nat.le_of_ble_eq_true rfl) ?_
  refine j_ifb_ne (tgt := 30) dX0_game_24 (by decide) (fun c24 => ?_) (fun c24 => absurd hw c24)
  refine j_aload_n dX0_game_30 rfl ?_
  refine j_aload_n dX0_game_31 rfl ?_
  refine j_get 1 dX0_game_32 (by first | rfl | assumption) in_X0 rfl (by decide) q154 rfl ?_
  refine j_getN 0 dX0_game_35 (by first | rfl | assumption) in_X2 rfl (by decide) (fun _ hs => hs.1 _ qn125) rfl ?_
  refine j_iload_n dX0_game_38 rfl ?_
  refine j_iload_n dX0_game_39 rfl ?_
  refine j_callVi (f_worth6 h60 hK (F 0) v hv hs) dX0_game_40 pmX0_worth q1046 q1048 qs26 (by first | rfl | assumption) rfl rfl rfl ⟨Nat.le_of_ble_eq_true rfl, Nat.le_of_ble_eq_true rfl⟩ ⟨Nat.le_of_ble_eq_true rfl, Nat.le_of_ble_eq_true rfl⟩ rfl (Nat.le_of_ble_eq_true rfl) ?_
  refine j_istore dX0_game_43 (by decide) rfl ?_
  refine j_iload_n dX0_game_45 rfl ?_
  refine j_if_ne (tgt := 52) dX0_game_46 (by decide) (fun c46 => ?_) (fun c46 => ?_)
  · skip
    refine j_iconst (v := 0) dX0_game_52 (by decide) ?_
    refine j_istore dX0_game_53 (by decide) rfl ?_
    refine j_re (L' := [some (.ref (r 0)), some (.int (nI v)), some (.int 6), some (.int w), some (.int (wth (fun k a => stk kd bs m (ks k) a) nk v 6 (decA m (F 0)))), some (.int (nI 0)), none]) rfl rfl rfl ?_
    refine j_lp1 (fun (k : Nat) => fkS r dT g F V) (fun k => [some (.ref (r 0)), some (.int (nI v)), some (.int 6), some (.int w), some (.int (wth (fun k a => stk kd bs m (ks k) a) nk v 6 (decA m (F 0)))), some (.int (nI k)), none]) (fun k => k ≤ nk ∧ gfst (fun k => if (stk kd bs m (ks k) (decA m (F 0))).2.2.1 = v then 1 else -(wth (fun k a => stk kd bs m (ks k) a) nk v 5 (stk kd bs m (ks k) (decA m (F 0))))) (wth (fun k a => stk kd bs m (ks k) a) nk v 6 (decA m (F 0))) (nk - k) k = gfst (fun k => if (stk kd bs m (ks k) (decA m (F 0))).2.2.1 = v then 1 else -(wth (fun k a => stk kd bs m (ks k) a) nk v 5 (stk kd bs m (ks k) (decA m (F 0))))) (wth (fun k a => stk kd bs m (ks k) a) nk v 6 (decA m (F 0))) nk 0) (fun k => nk - k) ?_ 0 ⟨Nat.zero_le _, rfl⟩
    intro k ⟨hkK, hgf⟩ ih
    refine j_iload dX0_game_55 rfl ?_
    refine j_aload_n dX0_game_57 rfl ?_
    refine j_get 0 dX0_game_58 (by first | rfl | assumption) in_X0 rfl (by decide) q153 rfl ?_
    refine j_getN 2 dX0_game_61 (by first | rfl | assumption) in_X1 rfl (by decide) (fun _ hs => hs.1 _ qn109) rfl ?_
    refine j_icmp_ge (tgt := 132) dX0_game_64 (by decide) (fun c64 => ?_) (fun c64 => ?_)
    · skip
      have hkk : k = nk := by
        have := (nI_leI (by omega) (by omega)).mp c64
        omega
      rw [hkk, Nat.sub_self, gfst] at hgf
      refine j_iconst (v := (-1)) dX0_game_132 (by decide) ?_
      refine j_iret dX0_game_133 rfl rfl (Nat.le_refl _) (Nat.le_refl _) ?_
      refine jr_i ?_
      rw [if_neg c46]
      exact hgf
    · skip
      have hkK2 : k < nk := Nat.lt_of_not_le (fun q => c64 (nI_le q (by omega)))
      rw [show nk - k = (nk - (k + 1)) + 1 by omega, gfst] at hgf
      have hox : okA m (stk kd bs m (ks k) (decA m (F 0))) := stk_ok hD (hks k hkK2).2.2 (decA_ok hm hs)
      have hxl := encA_lt hox
      refine j_iload_n dX0_game_67 rfl ?_
      refine j_if_le (tgt := 132) dX0_game_68 (by decide) (fun c68 => absurd c68 (by decide)) (fun c68 => ?_)
      refine j_aload_n dX0_game_71 rfl ?_
      refine j_get 0 dX0_game_72 (by first | rfl | assumption) in_X0 rfl (by decide) q153 rfl ?_
      refine j_getN 1 dX0_game_75 (by first | rfl | assumption) in_X1 rfl (by decide) (fun _ hs => hs.1 _ qn107) rfl ?_
      refine j_iload dX0_game_78 rfl ?_
      refine j_aald (w := .ref (r (k + 63))) 4 k dX0_game_80 (by first | rfl | assumption) rfl rfl rfl (by omega) (by decide) (by rw [(hks _ hkK2).1]; rfl) ?_
      refine j_aload_n dX0_game_81 rfl ?_
      refine j_get 1 dX0_game_82 (by first | rfl | assumption) in_X0 rfl (by decide) q154 rfl ?_
      refine j_getN 0 dX0_game_85 (by first | rfl | assumption) in_X2 rfl (by decide) (fun _ hs => hs.1 _ qn125) rfl ?_
      refine j_strike (i := 61) (q := ks k) dX0_game_88 (by exact (hks k hkK2).2.1) (by exact h61) hD (hks k hkK2).2.2 hs ⟨Nat.le_of_ble_eq_true rfl, Nat.le_of_ble_eq_true rfl, Nat.le_of_ble_eq_true rfl, Nat.le_of_ble_eq_true rfl⟩ (Nat.le_of_ble_eq_true rfl) ?_
      refine j_eqi (show _ = nI (encA m (stk kd bs m (ks k) (decA m (F 0)))) from rfl) ?_
      refine j_istore dX0_game_91 (by decide) rfl ?_
      refine j_join (tgt := 118) (fun x => x = (fun k => if (stk kd bs m (ks k) (decA m (F 0))).2.2.1 = v then 1 else -(wth (fun k a => stk kd bs m (ks k) a) nk v 5 (stk kd bs m (ks k) (decA m (F 0))))) k) (fun v93 hv93 => ?_) (fun kj93 => ?_)
      · skip
        subst hv93
        refine j_iload dX0_game_118 rfl ?_
        refine j_icmp_ne (tgt := 126) dX0_game_120 (by decide) (fun c120 => ?_) (fun c120 => ?_)
        · skip
          rw [if_neg c120] at hgf
          refine j_iinc dX0_game_126 rfl (by decide) rfl ?_
          refine j_goto (tgt := 55) dX0_game_129 (by decide) ?_
          refine j_less (L' := [some (.ref (r 0)), some (.int (nI v)), some (.int 6), some (.int w), some (.int (wth (fun k a => stk kd bs m (ks k) a) nk v 6 (decA m (F 0)))), some (.int (nI (k + 1))), none]) ⟨Or.inr rfl, Or.inr rfl, Or.inr rfl, Or.inr rfl, Or.inr rfl, Or.inr (by rw [← nI_inc]), Or.inl rfl, trivial⟩ ?_
          exact ih (k + 1) ⟨by omega, hgf⟩ (by omega)
        · skip
          rw [if_pos c120] at hgf
          refine j_iload dX0_game_123 rfl ?_
          refine j_iret dX0_game_125 rfl rfl (Nat.le_refl _) (Nat.le_refl _) ?_
          refine jr_i ?_
          rw [if_neg c46]
          exact hgf
      · skip
        refine j_aload_n dX0_game_93 rfl ?_
        refine j_iload dX0_game_94 rfl ?_
        refine j_callVi (f_shown1 h60 h61 hm hm2 (encA m (stk kd bs m (ks k) (decA m (F 0)))) (by omega)) dX0_game_96 pmX0_shown q771 q773 qs14 (by first | rfl | assumption) rfl rfl rfl ⟨Nat.le_of_ble_eq_true rfl, Nat.le_of_ble_eq_true rfl⟩ ⟨Nat.le_of_ble_eq_true rfl, Nat.le_of_ble_eq_true rfl⟩ rfl (Nat.le_of_ble_eq_true rfl) ?_
        refine j_eqi (show _ = nI (stk kd bs m (ks k) (decA m (F 0))).2.2.1 from congrArg nI (by show sS m (enc m (stk kd bs m (ks k) (decA m (F 0))).1 (stk kd bs m (ks k) (decA m (F 0))).2.1 (stk kd bs m (ks k) (decA m (F 0))).2.2.1 (stk kd bs m (ks k) (decA m (F 0))).2.2.2) = _; exact sS_enc hox.2.2.1 hox.2.2.2)) ?_
        refine j_iload_n dX0_game_99 rfl ?_
        refine j_icmp_ne (tgt := 107) dX0_game_100 (by decide) (fun c100 => ?_) (fun c100 => ?_)
        · skip
          have c100 : ¬ (stk kd bs m (ks k) (decA m (F 0))).2.2.1 = v := fun q => c100 (by rw [q])
          refine j_aload_n dX0_game_107 rfl ?_
          refine j_iload dX0_game_108 rfl ?_
          refine j_iload_n dX0_game_110 rfl ?_
          refine j_iload_n dX0_game_111 rfl ?_
          refine j_iconst (v := 1) dX0_game_112 (by decide) ?_
          refine j_isub dX0_game_113 ?_
          refine j_eqi (show _ = (5 : Int32) by decide) ?_
          refine j_callVi (f_worth5 h60 hK (encA m (stk kd bs m (ks k) (decA m (F 0)))) v hv hxl) dX0_game_114 pmX0_worth q1046 q1048 qs26 (by first | rfl | assumption) rfl rfl rfl ⟨Nat.le_of_ble_eq_true rfl, Nat.le_of_ble_eq_true rfl⟩ ⟨Nat.le_of_ble_eq_true rfl, Nat.le_of_ble_eq_true rfl⟩ rfl (Nat.le_of_ble_eq_true rfl) ?_
          refine j_eqi (show _ = wth (fun k a => stk kd bs m (ks k) a) nk v 5 (stk kd bs m (ks k) (decA m (F 0))) by rw [decA_encA hox]) ?_
          refine j_ineg dX0_game_117 ?_
          exact kj93 _ (by first | exact (if_pos c100).symm | exact (if_neg c100).symm)
        · skip
          have c100 : (stk kd bs m (ks k) (decA m (F 0))).2.2.1 = v := (nI_eq (by have := hox.2.2.1; omega) (by omega)).mp c100
          refine j_iconst (v := 1) dX0_game_103 (by decide) ?_
          refine j_goto (tgt := 118) dX0_game_104 (by decide) ?_
          exact kj93 _ (by first | exact (if_pos c100).symm | exact (if_neg c100).symm)
  · skip
    refine j_iload dX0_game_49 rfl ?_
    refine j_iret dX0_game_51 rfl rfl (Nat.le_refl _) (Nat.le_refl _) ?_
    exact jr_i (if_pos c46).symm
