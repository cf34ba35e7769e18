set_option maxRecDepth 100000
theorem none0 {v : Int32} : ¬ (0 ≤ v ∧ v ≤ nI 0 - 1) := by
  rintro ⟨h1, h2⟩
  rw [Int32.le_iff_toInt_le] at h1 h2
  rw [show (0 : Int32).toInt = 0 by decide] at h1
  rw [show (nI 0 - 1).toInt = -1 by decide] at h2
  omega
theorem cntR_le {stp : Nat → A4 → A4} {K v : Nat} {wo : Int32} (hK : K ≤ 8) : ∀ (n : Nat) (a : A4), cntR stp K v wo n a ≤ 8 ^ n
  | 0, a => by rw [cntR]; split <;> simp
  | n + 1, a => by
    rw [cntR]
    have h1 := fb_sm_bound (f := fun k => if nI k = wo then 0 else cntR stp K v wo n (stp k a)) (c := 8 ^ n) (n := K) (fun k _ => by
      split
      · exact Nat.zero_le _
      · exact cntR_le hK n _)
    have h2 : K * 8 ^ n ≤ 8 * 8 ^ n := Nat.mul_le_mul_right _ hK
    rw [Nat.pow_succ]
    omega
def sset (f : Nat → Nat) : Nat → Int32
  | 0 => 0
  | k + 1 => sset f k ||| (if f k = 0 then 1 <<< (nI k &&& 31) else 0)
set_option maxHeartbeats 4000000 in
theorem f_struck1o {l : Launch} {D : va_G} {dT : Nat → ClassId} {H0 : Heap} {r : Nat → Nat} {nx : Nat} {g : j_H} {F : Nat → Nat} {V : Nat → Nat → Int32} {nk : Nat} (h60 : g 60 = some (rcell (.ref (r 61)) (r 62) nk)) {kd bs fg m : Nat} {ks : Nat → KY} (hK : fkK r dT g kd bs fg m nk ks) (a b w : Int32) (hA : ¬ ((0 ≤ a ∧ a ≤ 8) ∧ (0 ≤ b ∧ b ≤ nI m - 1) ∧ (0 ≤ w ∧ w ≤ 1))) : MC (gG l D dT H0) yX0_struck cX0_struck 7 (some .int) 8 0 0 [.ref (r 0), .int a, .int b, .int w] r (fkS r dT g F V) nx (jq_i (-1000000002) r (fkS r dT g F V) nx) := by
  obtain ⟨h61, hD, hkn, ka, h62, hks⟩ := id hK
  have hm := hD.pos
  have hm2 := hD.le
  have hmm := mm_le hm2
  refine MC.ofJ [some (.ref (r 0)), some (.int a), some (.int b), some (.int w), none, none, none] rfl (Nat.le_of_ble_eq_true rfl) (by decide) ?_
  refine j_iload_n dX0_struck_0 rfl ?_
  refine j_iconst (v := 0) dX0_struck_1 (by decide) ?_
  refine j_bipush (v := 8) dX0_struck_2 (by decide) ?_
  refine j_callSi (c_X0_isIn _ _ _) dX0_struck_4 pmX0_isIn q220 q221 rfl ⟨Nat.le_of_ble_eq_true rfl, Nat.le_of_ble_eq_true rfl⟩ ⟨Nat.le_of_ble_eq_true rfl, Nat.le_of_ble_eq_true rfl⟩ rfl (Nat.le_of_ble_eq_true rfl) ?_
  refine j_ifb_eq (tgt := 27) dX0_struck_7 (by decide) (fun c7 => ?_) (fun c7 => ?_)
  · skip
    refine j_ldc dX0_struck_27 q223 ?_
    refine j_iret dX0_struck_29 rfl rfl (Nat.le_refl _) (Nat.le_refl _) ?_
    exact jr_i rfl
  · skip
    refine j_aload_n dX0_struck_10 rfl ?_
    refine j_iload_n dX0_struck_11 rfl ?_
    refine j_callVi (f_isNumber1 h60 h61 hm hm2 _) dX0_struck_12 pmX0_isNumber q920 q922 qs17 (by first | rfl | assumption) rfl rfl rfl ⟨Nat.le_of_ble_eq_true rfl, Nat.le_of_ble_eq_true rfl⟩ ⟨Nat.le_of_ble_eq_true rfl, Nat.le_of_ble_eq_true rfl⟩ rfl (Nat.le_of_ble_eq_true rfl) ?_
    refine j_ifb_eq (tgt := 27) dX0_struck_15 (by decide) (fun c15 => ?_) (fun c15 => ?_)
    · skip
      refine j_ldc dX0_struck_27 q223 ?_
      refine j_iret dX0_struck_29 rfl rfl (Nat.le_refl _) (Nat.le_refl _) ?_
      exact jr_i rfl
    · skip
      refine j_iload_n dX0_struck_18 rfl ?_
      refine j_iconst (v := 0) dX0_struck_19 (by decide) ?_
      refine j_iconst (v := 1) dX0_struck_20 (by decide) ?_
      refine j_callSi (c_X0_isIn _ _ _) dX0_struck_21 pmX0_isIn q220 q221 rfl ⟨Nat.le_of_ble_eq_true rfl, Nat.le_of_ble_eq_true rfl⟩ ⟨Nat.le_of_ble_eq_true rfl, Nat.le_of_ble_eq_true rfl⟩ rfl (Nat.le_of_ble_eq_true rfl) ?_
      refine j_ifb_ne (tgt := 30) dX0_struck_24 (by decide) (fun c24 => ?_) (fun c24 => ?_)
      · skip
        exact absurd ⟨c7, c15, c24⟩ hA
      · skip
        refine j_ldc dX0_struck_27 q223 ?_
        refine j_iret dX0_struck_29 rfl rfl (Nat.le_refl _) (Nat.le_refl _) ?_
        exact jr_i rfl
set_option maxHeartbeats 4000000 in
theorem f_struck0o {l : Launch} {D : va_G} {dT : Nat → ClassId} {H0 : Heap} {r : Nat → Nat} {nx : Nat} {g : j_H} {F : Nat → Nat} {V : Nat → Nat → Int32} {a0 nk : Nat} (h60 : g 60 = some (rcell .null a0 nk)) (a b w : Int32)  : MC (gG l D dT H0) yX0_struck cX0_struck 7 (some .int) 8 0 0 [.ref (r 0), .int a, .int b, .int w] r (fkS r dT g F V) nx (jq_i (-1000000002) r (fkS r dT g F V) nx) := by
  refine MC.ofJ [some (.ref (r 0)), some (.int a), some (.int b), some (.int w), none, none, none] rfl (Nat.le_of_ble_eq_true rfl) (by decide) ?_
  refine j_iload_n dX0_struck_0 rfl ?_
  refine j_iconst (v := 0) dX0_struck_1 (by decide) ?_
  refine j_bipush (v := 8) dX0_struck_2 (by decide) ?_
  refine j_callSi (c_X0_isIn _ _ _) dX0_struck_4 pmX0_isIn q220 q221 rfl ⟨Nat.le_of_ble_eq_true rfl, Nat.le_of_ble_eq_true rfl⟩ ⟨Nat.le_of_ble_eq_true rfl, Nat.le_of_ble_eq_true rfl⟩ rfl (Nat.le_of_ble_eq_true rfl) ?_
  refine j_ifb_eq (tgt := 27) dX0_struck_7 (by decide) (fun c7 => ?_) (fun c7 => ?_)
  · skip
    refine j_ldc dX0_struck_27 q223 ?_
    refine j_iret dX0_struck_29 rfl rfl (Nat.le_refl _) (Nat.le_refl _) ?_
    exact jr_i rfl
  · skip
    refine j_aload_n dX0_struck_10 rfl ?_
    refine j_iload_n dX0_struck_11 rfl ?_
    refine j_callVi (f_isNumber0 h60 _) dX0_struck_12 pmX0_isNumber q920 q922 qs17 (by first | rfl | assumption) rfl rfl rfl ⟨Nat.le_of_ble_eq_true rfl, Nat.le_of_ble_eq_true rfl⟩ ⟨Nat.le_of_ble_eq_true rfl, Nat.le_of_ble_eq_true rfl⟩ rfl (Nat.le_of_ble_eq_true rfl) ?_
    refine j_ifb_eq (tgt := 27) dX0_struck_15 (by decide) (fun c15 => ?_) (fun c15 => ?_)
    · skip
      refine j_ldc dX0_struck_27 q223 ?_
      refine j_iret dX0_struck_29 rfl rfl (Nat.le_refl _) (Nat.le_refl _) ?_
      exact jr_i rfl
    · skip
      refine j_iload_n dX0_struck_18 rfl ?_
      refine j_iconst (v := 0) dX0_struck_19 (by decide) ?_
      refine j_iconst (v := 1) dX0_struck_20 (by decide) ?_
      refine j_callSi (c_X0_isIn _ _ _) dX0_struck_21 pmX0_isIn q220 q221 rfl ⟨Nat.le_of_ble_eq_true rfl, Nat.le_of_ble_eq_true rfl⟩ ⟨Nat.le_of_ble_eq_true rfl, Nat.le_of_ble_eq_true rfl⟩ rfl (Nat.le_of_ble_eq_true rfl) ?_
      refine j_ifb_ne (tgt := 30) dX0_struck_24 (by decide) (fun c24 => ?_) (fun c24 => ?_)
      · skip
        exact absurd c15 none0
      · skip
        refine j_ldc dX0_struck_27 q223 ?_
        refine j_iret dX0_struck_29 rfl rfl (Nat.le_refl _) (Nat.le_refl _) ?_
        exact jr_i rfl
set_option maxHeartbeats 4000000 in
theorem f_struck1 {l : Launch} {D : va_G} {dT : Nat → ClassId} {H0 : Heap} {r : Nat → Nat} {nx : Nat} {g : j_H} {F : Nat → Nat} {V : Nat → Nat → Int32} {nk : Nat} (h60 : g 60 = some (rcell (.ref (r 61)) (r 62) nk)) {kd bs fg m : Nat} {ks : Nat → KY} (hK : fkK r dT g kd bs fg m nk ks) (n v : Nat) (w : Int32) (hn : n ≤ 8) (hv : v < m) (hw : 0 ≤ w ∧ w ≤ 1) (hnk : nk ≤ 8) (hs : F 0 < 8 * m * m) : MC (gG l D dT H0) yX0_struck cX0_struck 7 (some .int) 8 0 0 [.ref (r 0), .int (nI n), .int (nI v), .int w] r (fkS r dT g F V) nx (jq_s (if w = 0 then nI (cntR (fun k a => stk kd bs m (ks k) a) nk v (-1) n (decA m (F 0))) else if 0 < (cntR (fun k a => stk kd bs m (ks k) a) nk v (-1) n (decA m (F 0))) then sset (fun k => cntR (fun k a => stk kd bs m (ks k) a) nk v (nI k) n (decA m (F 0))) nk else 0) r dT g F V nx) := by
  obtain ⟨h61, hD, hkn, ka, h62, hks⟩ := id hK
  have hm := hD.pos
  have hm2 := hD.le
  have hmm := mm_le hm2
  have hcb : ∀ wo a, cntR (fun k a => stk kd bs m (ks k) a) nk v wo n a < 2 ^ 31 := fun wo a => by
    have h1 := cntR_le (stp := (fun k a => stk kd bs m (ks k) a)) (v := v) (wo := wo) hnk n a
    have h2 := p8_le hn
    omega
  refine MC.ofJ [some (.ref (r 0)), some (.int (nI n)), some (.int (nI v)), some (.int w), none, none, none] rfl (Nat.le_of_ble_eq_true rfl) (by decide) ?_
  refine j_iload_n dX0_struck_0 rfl ?_
  refine j_iconst (v := 0) dX0_struck_1 (by decide) ?_
  refine j_bipush (v := 8) dX0_struck_2 (by decide) ?_
  refine j_callSi (c_X0_isIn _ _ _) dX0_struck_4 pmX0_isIn q220 q221 rfl ⟨Nat.le_of_ble_eq_true rfl, Nat.le_of_ble_eq_true rfl⟩ ⟨Nat.le_of_ble_eq_true rfl, Nat.le_of_ble_eq_true rfl⟩ rfl (Nat.le_of_ble_eq_true rfl) ?_
  refine j_ifb_eq (tgt := 27) dX0_struck_7 (by decide) (fun c7 => absurd ⟨nI_pos' (by omega), nI_le (b := 8) hn (by decide)⟩ c7) (fun c7 => ?_)
  refine j_aload_n dX0_struck_10 rfl ?_
  refine j_iload_n dX0_struck_11 rfl ?_
  refine j_callVi (f_isNumber1 h60 h61 hm hm2 _) dX0_struck_12 pmX0_isNumber q920 q922 qs17 (by first | rfl | assumption) rfl rfl rfl ⟨Nat.le_of_ble_eq_true rfl, Nat.le_of_ble_eq_true rfl⟩ ⟨Nat.le_of_ble_eq_true rfl, Nat.le_of_ble_eq_true rfl⟩ rfl (Nat.le_of_ble_eq_true rfl) ?_
  refine j_ifb_eq (tgt := 27) dX0_struck_15 (by decide) (fun c15 => absurd (nI_inr hv (by omega)) c15) (fun c15 => ?_)
  refine j_iload_n dX0_struck_18 rfl ?_
  refine j_iconst (v := 0) dX0_struck_19 (by decide) ?_
  refine j_iconst (v := 1) dX0_struck_20 (by decide) ?_
  refine j_callSi (c_X0_isIn _ _ _) dX0_struck_21 pmX0_isIn q220 q221 rfl ⟨Nat.le_of_ble_eq_true rfl, Nat.le_of_ble_eq_true rfl⟩ ⟨Nat.le_of_ble_eq_true rfl, Nat.le_of_ble_eq_true rfl⟩ rfl (Nat.le_of_ble_eq_true rfl) ?_
  refine j_ifb_ne (tgt := 30) dX0_struck_24 (by decide) (fun c24 => ?_) (fun c24 => absurd hw c24)
  refine j_aload_n dX0_struck_30 rfl ?_
  refine j_iload_n dX0_struck_31 rfl ?_
  refine j_iload_n dX0_struck_32 rfl ?_
  refine j_iconst (v := (-1)) dX0_struck_33 (by decide) ?_
  refine j_callV (f_rowsTo (V := V) h60 hK n v (-1) hn hv hnk hs) jq_s.isR dX0_struck_34 pmX0_rowsTo q1020 q1022 qs24 (by first | rfl | assumption) rfl rfl rfl ⟨Nat.le_of_ble_eq_true rfl, Nat.le_of_ble_eq_true rfl⟩ ⟨Nat.le_of_ble_eq_true rfl, Nat.le_of_ble_eq_true rfl⟩ rfl (Nat.le_of_ble_eq_true rfl) ?_
  rintro v9 r h9 nx ⟨e9, rfl, rfl, V0, rfl, hV0⟩
  cases e9
  show J _ _ _ _ _ _ _ _ _ _ _ _ (.int _ :: _)
  refine j_istore dX0_struck_37 (by decide) rfl ?_
  refine j_iload_n dX0_struck_39 rfl ?_
  refine j_if_ne (tgt := 46) dX0_struck_40 (by decide) (fun c40 => ?_) (fun c40 => ?_)
  · skip
    refine j_iconst (v := 0) dX0_struck_46 (by decide) ?_
    refine j_istore dX0_struck_47 (by decide) rfl ?_
    refine j_iconst (v := 0) dX0_struck_49 (by decide) ?_
    refine j_istore dX0_struck_50 (by decide) rfl ?_
    refine j_re (L' := [some (.ref (r 0)), some (.int (nI n)), some (.int (nI v)), some (.int w), some (.int (nI (cntR (fun k a => stk kd bs m (ks k) a) nk v (-1) n (decA m (F 0))))), some (.int (sset (fun k => cntR (fun k a => stk kd bs m (ks k) a) nk v (nI k) n (decA m (F 0))) 0)), some (.int (nI 0))]) rfl rfl rfl ?_
    refine j_lp2 (fun (k : Nat) (V1 : Nat → Nat → Int32) => fkS r dT g F V1) (fun k _ => [some (.ref (r 0)), some (.int (nI n)), some (.int (nI v)), some (.int w), some (.int (nI (cntR (fun k a => stk kd bs m (ks k) a) nk v (-1) n (decA m (F 0))))), some (.int (sset (fun k => cntR (fun k a => stk kd bs m (ks k) a) nk v (nI k) n (decA m (F 0))) k)), some (.int (nI k))]) (fun k V1 => k ≤ nk ∧ (∀ j, ¬ isSc j → V1 j = V j) ∧ (0 < (cntR (fun k a => stk kd bs m (ks k) a) nk v (-1) n (decA m (F 0))) ∨ k = 0)) (fun k _ => nk - k) ?_ 0 V0 ⟨Nat.zero_le _, hV0, Or.inr rfl⟩
    intro k V1 ⟨hkK, hV1, hk0⟩ ih
    refine j_iload dX0_struck_52 rfl ?_
    refine j_aload_n dX0_struck_54 rfl ?_
    refine j_get 0 dX0_struck_55 (by first | rfl | assumption) in_X0 rfl (by decide) q153 rfl ?_
    refine j_getN 2 dX0_struck_58 (by first | rfl | assumption) in_X1 rfl (by decide) (fun _ hs => hs.1 _ qn109) rfl ?_
    refine j_icmp_ge (tgt := 99) dX0_struck_61 (by decide) (fun c61 => ?_) (fun c61 => ?_)
    · skip
      have hkk : k = nk := by
        have := (nI_leI (by omega) (by omega)).mp c61
        omega
      refine j_iload dX0_struck_99 rfl ?_
      refine j_iret dX0_struck_101 rfl rfl (Nat.le_refl _) (Nat.le_refl _) ?_
      refine js_i ?_ hV1
      rw [if_neg c40]
      by_cases ha0 : 0 < (cntR (fun k a => stk kd bs m (ks k) a) nk v (-1) n (decA m (F 0)))
      · rw [if_pos ha0, hkk]
      · rw [if_neg ha0, hk0.resolve_left ha0]
        rfl
    · skip
      refine j_iload dX0_struck_64 rfl ?_
      refine j_if_le (tgt := 99) dX0_struck_66 (by decide) (fun c66 => ?_) (fun c66 => ?_)
      · skip
        have ha0 : ¬ 0 < (cntR (fun k a => stk kd bs m (ks k) a) nk v (-1) n (decA m (F 0))) := fun q => absurd c66 (nI_nle q (hcb _ _))
        refine j_iload dX0_struck_99 rfl ?_
        refine j_iret dX0_struck_101 rfl rfl (Nat.le_refl _) (Nat.le_refl _) ?_
        refine js_i ?_ hV1
        rw [if_neg c40, if_neg ha0, hk0.resolve_left ha0]
        rfl
      · skip
        have ha0 : 0 < (cntR (fun k a => stk kd bs m (ks k) a) nk v (-1) n (decA m (F 0))) := by
          rcases Nat.eq_zero_or_pos (cntR (fun k a => stk kd bs m (ks k) a) nk v (-1) n (decA m (F 0))) with q | q
          · exact absurd (by rw [q]; exact Int32.le_refl _) c66
          · exact q
        have hkK2 : k < nk := Nat.lt_of_not_le (fun q => c61 (nI_le q (by omega)))
        refine j_iload dX0_struck_69 rfl ?_
        refine j_aload_n dX0_struck_71 rfl ?_
        refine j_iload_n dX0_struck_72 rfl ?_
        refine j_iload_n dX0_struck_73 rfl ?_
        refine j_iload dX0_struck_74 rfl ?_
        refine j_callV (f_rowsTo (V := V1) h60 hK n v (nI k) hn hv hnk hs) jq_s.isR dX0_struck_76 pmX0_rowsTo q1020 q1022 qs24 (by first | rfl | assumption) rfl rfl rfl ⟨Nat.le_of_ble_eq_true rfl, Nat.le_of_ble_eq_true rfl⟩ ⟨Nat.le_of_ble_eq_true rfl, Nat.le_of_ble_eq_true rfl⟩ rfl (Nat.le_of_ble_eq_true rfl) ?_
        rintro v9 r h9 nx ⟨e9, rfl, rfl, V2, rfl, hV2⟩
        cases e9
        show J _ _ _ _ _ _ _ _ _ _ _ _ (.int _ :: _)
        refine j_if_ne (tgt := 89) dX0_struck_79 (by decide) (fun c79 => ?_) (fun c79 => ?_)
        · skip
          have c79 : ¬ (fun k => cntR (fun k a => stk kd bs m (ks k) a) nk v (nI k) n (decA m (F 0))) k = 0 := fun q => c79 (by show nI ((fun k => cntR (fun k a => stk kd bs m (ks k) a) nk v (nI k) n (decA m (F 0))) k) = 0; rw [q]; rfl)
          refine j_iconst (v := 0) dX0_struck_89 (by decide) ?_
          refine j_ior dX0_struck_90 ?_
          refine j_istore dX0_struck_91 (by decide) rfl ?_
          refine j_iinc dX0_struck_93 rfl (by decide) rfl ?_
          refine j_goto (tgt := 52) dX0_struck_96 (by decide) ?_
          refine j_re (L' := [some (.ref (r 0)), some (.int (nI n)), some (.int (nI v)), some (.int w), some (.int (nI (cntR (fun k a => stk kd bs m (ks k) a) nk v (-1) n (decA m (F 0))))), some (.int (sset (fun k => cntR (fun k a => stk kd bs m (ks k) a) nk v (nI k) n (decA m (F 0))) (k + 1))), some (.int (nI (k + 1)))]) ?_ rfl rfl (ih (k + 1) V2 ⟨by omega, (fun j hj => (hV2 j hj).trans (hV1 j hj)), Or.inl ha0⟩ (by omega))
          rw [← nI_inc, sset, if_neg c79]
          rfl
        · skip
          have c79 : (fun k => cntR (fun k a => stk kd bs m (ks k) a) nk v (nI k) n (decA m (F 0))) k = 0 := (nI_eq (hcb _ _) (by decide)).mp c79
          refine j_iconst (v := 1) dX0_struck_82 (by decide) ?_
          refine j_iload dX0_struck_83 rfl ?_
          refine j_ishl dX0_struck_85 ?_
          refine j_goto (tgt := 90) dX0_struck_86 (by decide) ?_
          refine j_ior dX0_struck_90 ?_
          refine j_istore dX0_struck_91 (by decide) rfl ?_
          refine j_iinc dX0_struck_93 rfl (by decide) rfl ?_
          refine j_goto (tgt := 52) dX0_struck_96 (by decide) ?_
          refine j_re (L' := [some (.ref (r 0)), some (.int (nI n)), some (.int (nI v)), some (.int w), some (.int (nI (cntR (fun k a => stk kd bs m (ks k) a) nk v (-1) n (decA m (F 0))))), some (.int (sset (fun k => cntR (fun k a => stk kd bs m (ks k) a) nk v (nI k) n (decA m (F 0))) (k + 1))), some (.int (nI (k + 1)))]) ?_ rfl rfl (ih (k + 1) V2 ⟨by omega, (fun j hj => (hV2 j hj).trans (hV1 j hj)), Or.inl ha0⟩ (by omega))
          rw [← nI_inc, sset, if_pos c79]
          rfl
  · skip
    refine j_iload dX0_struck_43 rfl ?_
    refine j_iret dX0_struck_45 rfl rfl (Nat.le_refl _) (Nat.le_refl _) ?_
    exact js_i (if_pos c40).symm hV0
/-- the most of f k .. , b at first; not on behind a 1 -/
def mxK (f : Nat → Int32) : Nat → Nat → Int32 → Int32
  | 0, _, b => b
  | n + 1, k, b => if b < 1 then mxK f n (k + 1) (if b < f k then f k else b) else b
/-- what one who strikes next can have with so many strokes: 1, 0, -1 -/
def wth (stp : Nat → A4 → A4) (K v : Nat) : Nat → A4 → Int32
  | 0, _ => 0
  | n + 1, a => if K = 0 then 0 else mxK (fun k => if (stp k a).2.2.1 = v then 1 else -(wth stp K v n (stp k a))) K 0 (-1)
def gfst (f : Nat → Int32) (b : Int32) : Nat → Nat → Int32
  | 0, _ => -1
  | n + 1, k => if f k = b then nI k else gfst f b n (k + 1)
set_option maxHeartbeats 4000000 in
theorem f_worth0 {l : Launch} {D : va_G} {dT : Nat → ClassId} {H0 : Heap} {r : Nat → Nat} {nx : Nat} {g : j_H} {F : Nat → Nat} {V : Nat → Nat → Int32} {nk : Nat} (h60 : g 60 = some (rcell (.ref (r 61)) (r 62) nk)) {kd bs fg m : Nat} {ks : Nat → KY} (hK : fkK r dT g kd bs fg m nk ks) (s v : Nat) (hv : v < m) (hs : s < 8 * m * m) : MC (gG l D dT H0) yX0_worth cX0_worth 7 (some .int) 6 0 0 [.ref (r 0), .int (nI s), .int (nI v), .int 0] r (fkS r dT g F V) nx (jq_i (wth (fun k a => stk kd bs m (ks k) a) nk v 0 (decA m s)) r (fkS r dT g F V) nx) := by
  obtain ⟨h61, hD, hkn, ka, h62, hks⟩ := id hK
  have hm := hD.pos
  have hm2 := hD.le
  have hmm := mm_le hm2
  refine MC.ofJ [some (.ref (r 0)), some (.int (nI s)), some (.int (nI v)), some (.int 0), none, none, none] rfl (Nat.le_of_ble_eq_true rfl) (by decide) ?_
  refine j_join (tgt := 19) (fun x => x = 0) (fun v0 hv0 => ?_) (fun kj0 => ?_)
  · skip
    refine j_istore dX0_worth_19 (by decide) rfl ?_
    refine j_iconst (v := 0) dX0_worth_21 (by decide) ?_
    refine j_istore dX0_worth_22 (by decide) rfl ?_
    refine j_iload dX0_worth_24 rfl ?_
    refine j_aload_n dX0_worth_26 rfl ?_
    refine j_get 0 dX0_worth_27 (by first | rfl | assumption) in_X0 rfl (by decide) q153 rfl ?_
    refine j_getN 2 dX0_worth_30 (by first | rfl | assumption) in_X1 rfl (by decide) (fun _ hs => hs.1 _ qn109) rfl ?_
    refine j_icmp_ge (tgt := 100) dX0_worth_33 (by decide) (fun c33 => ?_) (fun c33 => ?_)
    · skip
      skip
      refine j_iload dX0_worth_100 rfl ?_
      refine j_iret dX0_worth_102 rfl rfl (Nat.le_refl _) (Nat.le_refl _) ?_
      exact jr_i hv0
    · skip
      skip
      refine j_iload_n dX0_worth_36 rfl ?_
      refine j_if_le (tgt := 100) dX0_worth_37 (by decide) (fun c37 => ?_) (fun c37 => absurd (by decide) c37)
      refine j_iload dX0_worth_100 rfl ?_
      refine j_iret dX0_worth_102 rfl rfl (Nat.le_refl _) (Nat.le_refl _) ?_
      exact jr_i hv0
  · skip
    refine j_iload_n dX0_worth_0 rfl ?_
    refine j_if_eq (tgt := 14) dX0_worth_1 (by decide) (fun c1 => ?_) (fun c1 => absurd rfl c1)
    refine j_iconst (v := 0) dX0_worth_14 (by decide) ?_
    refine j_goto (tgt := 19) dX0_worth_15 (by decide) ?_
    exact kj0 _ (by first | rfl | exact (if_pos c11).symm | exact (if_neg c11).symm)
set_option maxHeartbeats 4000000 in
theorem f_worth1 {l : Launch} {D : va_G} {dT : Nat → ClassId} {H0 : Heap} {r : Nat → Nat} {nx : Nat} {g : j_H} {F : Nat → Nat} {V : Nat → Nat → Int32} {nk : Nat} (h60 : g 60 = some (rcell (.ref (r 61)) (r 62) nk)) {kd bs fg m : Nat} {ks : Nat → KY} (hK : fkK r dT g kd bs fg m nk ks) (s v : Nat) (hv : v < m) (hs : s < 8 * m * m) : MC (gG l D dT H0) yX0_worth cX0_worth 7 (some .int) 7 0 0 [.ref (r 0), .int (nI s), .int (nI v), .int 1] r (fkS r dT g F V) nx (jq_i (wth (fun k a => stk kd bs m (ks k) a) nk v 1 (decA m s)) r (fkS r dT g F V) nx) := by
  obtain ⟨h61, hD, hkn, ka, h62, hks⟩ := id hK
  have hm := hD.pos
  have hm2 := hD.le
  have hmm := mm_le hm2
  refine MC.ofJ [some (.ref (r 0)), some (.int (nI s)), some (.int (nI v)), some (.int 1), none, none, none] rfl (Nat.le_of_ble_eq_true rfl) (by decide) ?_
  refine j_join (tgt := 19) (fun x => x = if nk = 0 then 0 else -1) (fun v0 hv0 => ?_) (fun kj0 => ?_)
  · skip
    refine j_istore dX0_worth_19 (by decide) rfl ?_
    refine j_iconst (v := 0) dX0_worth_21 (by decide) ?_
    refine j_istore dX0_worth_22 (by decide) rfl ?_
    obtain ⟨v1, hv1⟩ : ∃ y, y = v0 := ⟨_, rfl⟩
    rw [← hv1] at hv0 ⊢
    refine j_re (L' := [some (.ref (r 0)), some (.int (nI s)), some (.int (nI v)), some (.int 1), some (.int v1), some (.int (nI 0)), none]) rfl rfl rfl ?_
    refine j_lp2 (fun (k : Nat) (b : Int32) => fkS r dT g F V) (fun k b => [some (.ref (r 0)), some (.int (nI s)), some (.int (nI v)), some (.int 1), some (.int b), some (.int (nI k)), none]) (fun k b => k ≤ nk ∧ mxK (fun k => if (stk kd bs m (ks k) (decA m s)).2.2.1 = v then 1 else -(wth (fun k a => stk kd bs m (ks k) a) nk v 0 (stk kd bs m (ks k) (decA m s)))) (nk - k) k b = mxK (fun k => if (stk kd bs m (ks k) (decA m s)).2.2.1 = v then 1 else -(wth (fun k a => stk kd bs m (ks k) a) nk v 0 (stk kd bs m (ks k) (decA m s)))) nk 0 v1) (fun k _ => nk - k) ?_ 0 v1 ⟨Nat.zero_le _, rfl⟩
    intro k b ⟨hkK, hmx⟩ ih
    refine j_iload dX0_worth_24 rfl ?_
    refine j_aload_n dX0_worth_26 rfl ?_
    refine j_get 0 dX0_worth_27 (by first | rfl | assumption) in_X0 rfl (by decide) q153 rfl ?_
    refine j_getN 2 dX0_worth_30 (by first | rfl | assumption) in_X1 rfl (by decide) (fun _ hs => hs.1 _ qn109) rfl ?_
    refine j_icmp_ge (tgt := 100) dX0_worth_33 (by decide) (fun c33 => ?_) (fun c33 => ?_)
    · skip
      have hkk : k = nk := by
        have := (nI_leI (by omega) (by omega)).mp c33
        omega
      rw [hkk, Nat.sub_self, mxK] at hmx
      refine j_iload dX0_worth_100 rfl ?_
      refine j_iret dX0_worth_102 rfl rfl (Nat.le_refl _) (Nat.le_refl _) ?_
      refine jr_i ?_
      rw [hmx, hv0]
      show _ = if nk = 0 then 0 else mxK (fun k => if (stk kd bs m (ks k) (decA m s)).2.2.1 = v then 1 else -(wth (fun k a => stk kd bs m (ks k) a) nk v 0 (stk kd bs m (ks k) (decA m s)))) nk 0 (-1)
      by_cases hz : nk = 0
      · rw [if_pos hz, if_pos hz, hz]; rfl
      · rw [if_neg hz, if_neg hz]
    · skip
      have hkK2 : k < nk := Nat.lt_of_not_le (fun q => c33 (nI_le q (by omega)))
      refine j_iload_n dX0_worth_36 rfl ?_
      refine j_if_le (tgt := 100) dX0_worth_37 (by decide) (fun c37 => absurd c37 (by decide)) (fun c37 => ?_)
      refine j_iload dX0_worth_40 rfl ?_
      refine j_iconst (v := 1) dX0_worth_42 (by decide) ?_
      refine j_icmp_ge (tgt := 100) dX0_worth_43 (by decide) (fun c43 => ?_) (fun c43 => ?_)
      · skip
        have hb1 : ¬ b < 1 := fun q => Int32.lt_irrefl (Int32.lt_of_lt_of_le q c43)
        rw [show nk - k = (nk - (k + 1)) + 1 by omega, mxK, if_neg hb1] at hmx
        refine j_iload dX0_worth_100 rfl ?_
        refine j_iret dX0_worth_102 rfl rfl (Nat.le_refl _) (Nat.le_refl _) ?_
        refine jr_i ?_
        rw [hmx, hv0]
        show _ = if nk = 0 then 0 else mxK (fun k => if (stk kd bs m (ks k) (decA m s)).2.2.1 = v then 1 else -(wth (fun k a => stk kd bs m (ks k) a) nk v 0 (stk kd bs m (ks k) (decA m s)))) nk 0 (-1)
        by_cases hz : nk = 0
        · rw [if_pos hz, if_pos hz, hz]; rfl
        · rw [if_neg hz, if_neg hz]
      · skip
        have hb1 : b < 1 := Int32.not_le.mp c43
        rw [show nk - k = (nk - (k + 1)) + 1 by omega, mxK, if_pos hb1] at hmx
        have hox : okA m (stk kd bs m (ks k) (decA m s)) := stk_ok hD (hks k hkK2).2.2 (decA_ok hm hs)
        have hxl := encA_lt hox
        refine j_aload_n dX0_worth_46 rfl ?_
        refine j_get 0 dX0_worth_47 (by first | rfl | assumption) in_X0 rfl (by decide) q153 rfl ?_
        refine j_getN 1 dX0_worth_50 (by first | rfl | assumption) in_X1 rfl (by decide) (fun _ hs => hs.1 _ qn107) rfl ?_
        refine j_iload dX0_worth_53 rfl ?_
        refine j_aald (w := .ref (r (k + 63))) 4 k dX0_worth_55 (by first | rfl | assumption) rfl rfl rfl (by omega) (by decide) (by rw [(hks _ hkK2).1]; rfl) ?_
        refine j_iload_n dX0_worth_56 rfl ?_
        refine j_strike (i := 61) (q := ks k) dX0_worth_57 (by exact (hks k hkK2).2.1) (by exact h61) hD (hks k hkK2).2.2 hs ⟨Nat.le_of_ble_eq_true rfl, Nat.le_of_ble_eq_true rfl, Nat.le_of_ble_eq_true rfl, Nat.le_of_ble_eq_true rfl⟩ (Nat.le_of_ble_eq_true rfl) ?_
        refine j_eqi (show _ = nI (encA m (stk kd bs m (ks k) (decA m s))) from rfl) ?_
        refine j_istore dX0_worth_60 (by decide) rfl ?_
        refine j_iload dX0_worth_62 rfl ?_
        refine j_join (tgt := 89) (fun x => x = (fun k => if (stk kd bs m (ks k) (decA m s)).2.2.1 = v then 1 else -(wth (fun k a => stk kd bs m (ks k) a) nk v 0 (stk kd bs m (ks k) (decA m s)))) k) (fun v64 hv64 => ?_) (fun kj64 => ?_)
        · skip
          refine j_max dX0_worth_89 q1050 ⟨Nat.le_of_ble_eq_true rfl, Nat.le_of_ble_eq_true rfl, Nat.le_of_ble_eq_true rfl, Nat.le_of_ble_eq_true rfl⟩ ?_
          subst hv64
          refine j_istore dX0_worth_92 (by decide) rfl ?_
          refine j_iinc dX0_worth_94 rfl (by decide) rfl ?_
          refine j_goto (tgt := 24) dX0_worth_97 (by decide) ?_
          refine j_less (L' := [some (.ref (r 0)), some (.int (nI s)), some (.int (nI v)), some (.int 1), some (.int (if b < (fun k => if (stk kd bs m (ks k) (decA m s)).2.2.1 = v then 1 else -(wth (fun k a => stk kd bs m (ks k) a) nk v 0 (stk kd bs m (ks k) (decA m s)))) k then (fun k => if (stk kd bs m (ks k) (decA m s)).2.2.1 = v then 1 else -(wth (fun k a => stk kd bs m (ks k) a) nk v 0 (stk kd bs m (ks k) (decA m s)))) k else b)), some (.int (nI (k + 1))), none]) ⟨Or.inr rfl, Or.inr rfl, Or.inr rfl, Or.inr rfl, Or.inr rfl, Or.inr (by rw [← nI_inc]), Or.inl rfl, trivial⟩ ?_
          exact ih (k + 1) _ ⟨by omega, hmx⟩ (by omega)
        · skip
          refine j_aload_n dX0_worth_64 rfl ?_
          refine j_iload dX0_worth_65 rfl ?_
          refine j_callVi (f_shown1 h60 h61 hm hm2 (encA m (stk kd bs m (ks k) (decA m s))) (by omega)) dX0_worth_67 pmX0_shown q771 q773 qs14 (by first | rfl | assumption) rfl rfl rfl ⟨Nat.le_of_ble_eq_true rfl, Nat.le_of_ble_eq_true rfl⟩ ⟨Nat.le_of_ble_eq_true rfl, Nat.le_of_ble_eq_true rfl⟩ rfl (Nat.le_of_ble_eq_true rfl) ?_
          refine j_eqi (show _ = nI (stk kd bs m (ks k) (decA m s)).2.2.1 from congrArg nI (by show sS m (enc m (stk kd bs m (ks k) (decA m s)).1 (stk kd bs m (ks k) (decA m s)).2.1 (stk kd bs m (ks k) (decA m s)).2.2.1 (stk kd bs m (ks k) (decA m s)).2.2.2) = _; exact sS_enc hox.2.2.1 hox.2.2.2)) ?_
          refine j_iload_n dX0_worth_70 rfl ?_
          refine j_icmp_ne (tgt := 78) dX0_worth_71 (by decide) (fun c71 => ?_) (fun c71 => ?_)
          · skip
            have c71 : ¬ (stk kd bs m (ks k) (decA m s)).2.2.1 = v := fun q => c71 (by rw [q])
            refine j_aload_n dX0_worth_78 rfl ?_
            refine j_iload dX0_worth_79 rfl ?_
            refine j_iload_n dX0_worth_81 rfl ?_
            refine j_iload_n dX0_worth_82 rfl ?_
            refine j_iconst (v := 1) dX0_worth_83 (by decide) ?_
            refine j_isub dX0_worth_84 ?_
            refine j_eqi (show _ = (0 : Int32) by decide) ?_
            refine j_callVi (f_worth0 h60 hK (encA m (stk kd bs m (ks k) (decA m s))) v hv hxl) dX0_worth_85 pmX0_worth q1046 q1048 qs26 (by first | rfl | assumption) rfl rfl rfl ⟨Nat.le_of_ble_eq_true rfl, Nat.le_of_ble_eq_true rfl⟩ ⟨Nat.le_of_ble_eq_true rfl, Nat.le_of_ble_eq_true rfl⟩ rfl (Nat.le_of_ble_eq_true rfl) ?_
            refine j_eqi (show _ = wth (fun k a => stk kd bs m (ks k) a) nk v 0 (stk kd bs m (ks k) (decA m s)) by rw [decA_encA hox]) ?_
            refine j_ineg dX0_worth_88 ?_
            exact kj64 _ (by first | exact (if_pos c71).symm | exact (if_neg c71).symm)
          · skip
            have c71 : (stk kd bs m (ks k) (decA m s)).2.2.1 = v := (nI_eq (by have := hox.2.2.1; omega) (by omega)).mp c71
            refine j_iconst (v := 1) dX0_worth_74 (by decide) ?_
            refine j_goto (tgt := 89) dX0_worth_75 (by decide) ?_
            exact kj64 _ (by first | exact (if_pos c71).symm | exact (if_neg c71).symm)
  · skip
    refine j_iload_n dX0_worth_0 rfl ?_
    refine j_if_eq (tgt := 14) dX0_worth_1 (by decide) (fun c1 => absurd c1 (by decide)) (fun c1 => ?_)
    refine j_aload_n dX0_worth_4 rfl ?_
    refine j_get 0 dX0_worth_5 (by first | rfl | assumption) in_X0 rfl (by decide) q153 rfl ?_
    refine j_getN 2 dX0_worth_8 (by first | rfl | assumption) in_X1 rfl (by decide) (fun _ hs => hs.1 _ qn109) rfl ?_
    refine j_if_ne (tgt := 18) dX0_worth_11 (by decide) (fun c11 => ?_) (fun c11 => ?_)
    · skip
      have c11 : ¬ nk = 0 := fun q => c11 (by rw [q]; rfl)
      refine j_iconst (v := (-1)) dX0_worth_18 (by decide) ?_
      exact kj0 _ (by first | rfl | exact (if_pos c11).symm | exact (if_neg c11).symm)
    · skip
      have c11 : nk = 0 := (nI_eq (by omega) (by decide)).mp c11
      refine j_iconst (v := 0) dX0_worth_14 (by decide) ?_
      refine j_goto (tgt := 19) dX0_worth_15 (by decide) ?_
      exact kj0 _ (by first | rfl | exact (if_pos c11).symm | exact (if_neg c11).symm)
set_option maxHeartbeats 4000000 in
theorem f_worth2 {l : Launch} {D : va_G} {dT : Nat → ClassId} {H0 : Heap} {r : Nat → Nat} {nx : Nat} {g : j_H} {F : Nat → Nat} {V : Nat → Nat → Int32} {nk : Nat} (h60 : g 60 = some (rcell (.ref (r 61)) (r 62) nk)) {kd bs fg m : Nat} {ks : Nat → KY} (hK : fkK r dT g kd bs fg m nk ks) (s v : Nat) (hv : v < m) (hs : s < 8 * m * m) : MC (gG l D dT H0) yX0_worth cX0_worth 7 (some .int) 8 0 0 [.ref (r 0), .int (nI s), .int (nI v), .int 2] r (fkS r dT g F V) nx (jq_i (wth (fun k a => stk kd bs m (ks k) a) nk v 2 (decA m s)) r (fkS r dT g F V) nx) := by
  obtain ⟨h61, hD, hkn, ka, h62, hks⟩ := id hK
  have hm := hD.pos
  have hm2 := hD.le
  have hmm := mm_le hm2
  refine MC.ofJ [some (.ref (r 0)), some (.int (nI s)), some (.int (nI v)), some (.int 2), none, none, none] rfl (Nat.le_of_ble_eq_true rfl) (by decide) ?_
  refine j_join (tgt := 19) (fun x => x = if nk = 0 then 0 else -1) (fun v0 hv0 => ?_) (fun kj0 => ?_)
  · skip
    refine j_istore dX0_worth_19 (by decide) rfl ?_
    refine j_iconst (v := 0) dX0_worth_21 (by decide) ?_
    refine j_istore dX0_worth_22 (by decide) rfl ?_
    obtain ⟨v1, hv1⟩ : ∃ y, y = v0 := ⟨_, rfl⟩
    rw [← hv1] at hv0 ⊢
    refine j_re (L' := [some (.ref (r 0)), some (.int (nI s)), some (.int (nI v)), some (.int 2), some (.int v1), some (.int (nI 0)), none]) rfl rfl rfl ?_
    refine j_lp2 (fun (k : Nat) (b : Int32) => fkS r dT g F V) (fun k b => [some (.ref (r 0)), some (.int (nI s)), some (.int (nI v)), some (.int 2), some (.int b), some (.int (nI k)), none]) (fun k b => k ≤ nk ∧ mxK (fun k => if (stk kd bs m (ks k) (decA m s)).2.2.1 = v then 1 else -(wth (fun k a => stk kd bs m (ks k) a) nk v 1 (stk kd bs m (ks k) (decA m s)))) (nk - k) k b = mxK (fun k => if (stk kd bs m (ks k) (decA m s)).2.2.1 = v then 1 else -(wth (fun k a => stk kd bs m (ks k) a) nk v 1 (stk kd bs m (ks k) (decA m s)))) nk 0 v1) (fun k _ => nk - k) ?_ 0 v1 ⟨Nat.zero_le _, rfl⟩
    intro k b ⟨hkK, hmx⟩ ih
    refine j_iload dX0_worth_24 rfl ?_
    refine j_aload_n dX0_worth_26 rfl ?_
    refine j_get 0 dX0_worth_27 (by first | rfl | assumption) in_X0 rfl (by decide) q153 rfl ?_
    refine j_getN 2 dX0_worth_30 (by first | rfl | assumption) in_X1 rfl (by decide) (fun _ hs => hs.1 _ qn109) rfl ?_
    refine j_icmp_ge (tgt := 100) dX0_worth_33 (by decide) (fun c33 => ?_) (fun c33 => ?_)
    · skip
      have hkk : k = nk := by
        have := (nI_leI (by omega) (by omega)).mp c33
        omega
      rw [hkk, Nat.sub_self, mxK] at hmx
      refine j_iload dX0_worth_100 rfl ?_
      refine j_iret dX0_worth_102 rfl rfl (Nat.le_refl _) (Nat.le_refl _) ?_
      refine jr_i ?_
      rw [hmx, hv0]
      show _ = if nk = 0 then 0 else mxK (fun k => if (stk kd bs m (ks k) (decA m s)).2.2.1 = v then 1 else -(wth (fun k a => stk kd bs m (ks k) a) nk v 1 (stk kd bs m (ks k) (decA m s)))) nk 0 (-1)
      by_cases hz : nk = 0
      · rw [if_pos hz, if_pos hz, hz]; rfl
      · rw [if_neg hz, if_neg hz]
    · skip
      have hkK2 : k < nk := Nat.lt_of_not_le (fun q => c33 (nI_le q (by omega)))
      refine j_iload_n dX0_worth_36 rfl ?_
      refine j_if_le (tgt := 100) dX0_worth_37 (by decide) (fun c37 => absurd c37 (by decide)) (fun c37 => ?_)
      refine j_iload dX0_worth_40 rfl ?_
      refine j_iconst (v := 1) dX0_worth_42 (by decide) ?_
      refine j_icmp_ge (tgt := 100) dX0_worth_43 (by decide) (fun c43 => ?_) (fun c43 => ?_)
      · skip
        have hb1 : ¬ b < 1 := fun q => Int32.lt_irrefl (Int32.lt_of_lt_of_le q c43)
        rw [show nk - k = (nk - (k + 1)) + 1 by omega, mxK, if_neg hb1] at hmx
        refine j_iload dX0_worth_100 rfl ?_
        refine j_iret dX0_worth_102 rfl rfl (Nat.le_refl _) (Nat.le_refl _) ?_
        refine jr_i ?_
        rw [hmx, hv0]
        show _ = if nk = 0 then 0 else mxK (fun k => if (stk kd bs m (ks k) (decA m s)).2.2.1 = v then 1 else -(wth (fun k a => stk kd bs m (ks k) a) nk v 1 (stk kd bs m (ks k) (decA m s)))) nk 0 (-1)
        by_cases hz : nk = 0
        · rw [if_pos hz, if_pos hz, hz]; rfl
        · rw [if_neg hz, if_neg hz]
      · skip
        have hb1 : b < 1 := Int32.not_le.mp c43
        rw [show nk - k = (nk - (k + 1)) + 1 by omega, mxK, if_pos hb1] at hmx
        have hox : okA m (stk kd bs m (ks k) (decA m s)) := stk_ok hD (hks k hkK2).2.2 (decA_ok hm hs)
        have hxl := encA_lt hox
        refine j_aload_n dX0_worth_46 rfl ?_
        refine j_get 0 dX0_worth_47 (by first | rfl | assumption) in_X0 rfl (by decide) q153 rfl ?_
        refine j_getN 1 dX0_worth_50 (by first | rfl | assumption) in_X1 rfl (by decide) (fun _ hs => hs.1 _ qn107) rfl ?_
        refine j_iload dX0_worth_53 rfl ?_
        refine j_aald (w := .ref (r (k + 63))) 4 k dX0_worth_55 (by first | rfl | assumption) rfl rfl rfl (by omega) (by decide) (by rw [(hks _ hkK2).1]; rfl) ?_
        refine j_iload_n dX0_worth_56 rfl ?_
        refine j_strike (i := 61) (q := ks k) dX0_worth_57 (by exact (hks k hkK2).2.1) (by exact h61) hD (hks k hkK2).2.2 hs ⟨Nat.le_of_ble_eq_true rfl, Nat.le_of_ble_eq_true rfl, Nat.le_of_ble_eq_true rfl, Nat.le_of_ble_eq_true rfl⟩ (Nat.le_of_ble_eq_true rfl) ?_
        refine j_eqi (show _ = nI (encA m (stk kd bs m (ks k) (decA m s))) from rfl) ?_
        refine j_istore dX0_worth_60 (by decide) rfl ?_
        refine j_iload dX0_worth_62 rfl ?_
        refine j_join (tgt := 89) (fun x => x = (fun k => if (stk kd bs m (ks k) (decA m s)).2.2.1 = v then 1 else -(wth (fun k a => stk kd bs m (ks k) a) nk v 1 (stk kd bs m (ks k) (decA m s)))) k) (fun v64 hv64 => ?_) (fun kj64 => ?_)
        · skip
          refine j_max dX0_worth_89 q1050 ⟨Nat.le_of_ble_eq_true rfl, Nat.le_of_ble_eq_true rfl, Nat.le_of_ble_eq_true rfl, Nat.le_of_ble_eq_true rfl⟩ ?_
          subst hv64
          refine j_istore dX0_worth_92 (by decide) rfl ?_
          refine j_iinc dX0_worth_94 rfl (by decide) rfl ?_
          refine j_goto (tgt := 24) dX0_worth_97 (by decide) ?_
          refine j_less (L' := [some (.ref (r 0)), some (.int (nI s)), some (.int (nI v)), some (.int 2), some (.int (if b < (fun k => if (stk kd bs m (ks k) (decA m s)).2.2.1 = v then 1 else -(wth (fun k a => stk kd bs m (ks k) a) nk v 1 (stk kd bs m (ks k) (decA m s)))) k then (fun k => if (stk kd bs m (ks k) (decA m s)).2.2.1 = v then 1 else -(wth (fun k a => stk kd bs m (ks k) a) nk v 1 (stk kd bs m (ks k) (decA m s)))) k else b)), some (.int (nI (k + 1))), none]) ⟨Or.inr rfl, Or.inr rfl, Or.inr rfl, Or.inr rfl, Or.inr rfl, Or.inr (by rw [← nI_inc]), Or.inl rfl, trivial⟩ ?_
          exact ih (k + 1) _ ⟨by omega, hmx⟩ (by omega)
        · skip
          refine j_aload_n dX0_worth_64 rfl ?_
          refine j_iload dX0_worth_65 rfl ?_
          refine j_callVi (f_shown1 h60 h61 hm hm2 (encA m (stk kd bs m (ks k) (decA m s))) (by omega)) dX0_worth_67 pmX0_shown q771 q773 qs14 (by first | rfl | assumption) rfl rfl rfl ⟨Nat.le_of_ble_eq_true rfl, Nat.le_of_ble_eq_true rfl⟩ ⟨Nat.le_of_ble_eq_true rfl, Nat.le_of_ble_eq_true rfl⟩ rfl (Nat.le_of_ble_eq_true rfl) ?_
          refine j_eqi (show _ = nI (stk kd bs m (ks k) (decA m s)).2.2.1 from congrArg nI (by show sS m (enc m (stk kd bs m (ks k) (decA m s)).1 (stk kd bs m (ks k) (decA m s)).2.1 (stk kd bs m (ks k) (decA m s)).2.2.1 (stk kd bs m (ks k) (decA m s)).2.2.2) = _; exact sS_enc hox.2.2.1 hox.2.2.2)) ?_
          refine j_iload_n dX0_worth_70 rfl ?_
          refine j_icmp_ne (tgt := 78) dX0_worth_71 (by decide) (fun c71 => ?_) (fun c71 => ?_)
          · skip
            have c71 : ¬ (stk kd bs m (ks k) (decA m s)).2.2.1 = v := fun q => c71 (by rw [q])
            refine j_aload_n dX0_worth_78 rfl ?_
            refine j_iload dX0_worth_79 rfl ?_
            refine j_iload_n dX0_worth_81 rfl ?_
            refine j_iload_n dX0_worth_82 rfl ?_
            refine j_iconst (v := 1) dX0_worth_83 (by decide) ?_
            refine j_isub dX0_worth_84 ?_
            refine j_eqi (show _ = (1 : Int32) by decide) ?_
            refine j_callVi (f_worth1 h60 hK (encA m (stk kd bs m (ks k) (decA m s))) v hv hxl) dX0_worth_85 pmX0_worth q1046 q1048 qs26 (by first | rfl | assumption) rfl rfl rfl ⟨Nat.le_of_ble_eq_true rfl, Nat.le_of_ble_eq_true rfl⟩ ⟨Nat.le_of_ble_eq_true rfl, Nat.le_of_ble_eq_true rfl⟩ rfl (Nat.le_of_ble_eq_true rfl) ?_
            refine j_eqi (show _ = wth (fun k a => stk kd bs m (ks k) a) nk v 1 (stk kd bs m (ks k) (decA m s)) by rw [decA_encA hox]) ?_
            refine j_ineg dX0_worth_88 ?_
            exact kj64 _ (by first | exact (if_pos c71).symm | exact (if_neg c71).symm)
          · skip
            have c71 : (stk kd bs m (ks k) (decA m s)).2.2.1 = v := (nI_eq (by have := hox.2.2.1; omega) (by omega)).mp c71
            refine j_iconst (v := 1) dX0_worth_74 (by decide) ?_
            refine j_goto (tgt := 89) dX0_worth_75 (by decide) ?_
            exact kj64 _ (by first | exact (if_pos c71).symm | exact (if_neg c71).symm)
  · skip
    refine j_iload_n dX0_worth_0 rfl ?_
    refine j_if_eq (tgt := 14) dX0_worth_1 (by decide) (fun c1 => absurd c1 (by decide)) (fun c1 => ?_)
    refine j_aload_n dX0_worth_4 rfl ?_
    refine j_get 0 dX0_worth_5 (by first | rfl | assumption) in_X0 rfl (by decide) q153 rfl ?_
    refine j_getN 2 dX0_worth_8 (by first | rfl | assumption) in_X1 rfl (by decide) (fun _ hs => hs.1 _ qn109) rfl ?_
    refine j_if_ne (tgt := 18) dX0_worth_11 (by decide) (fun c11 => ?_) (fun c11 => ?_)
    · skip
      have c11 : ¬ nk = 0 := fun q => c11 (by rw [q]; rfl)
      refine j_iconst (v := (-1)) dX0_worth_18 (by decide) ?_
      exact kj0 _ (by first | rfl | exact (if_pos c11).symm | exact (if_neg c11).symm)
    · skip
      have c11 : nk = 0 := (nI_eq (by omega) (by decide)).mp c11
      refine j_iconst (v := 0) dX0_worth_14 (by decide) ?_
      refine j_goto (tgt := 19) dX0_worth_15 (by decide) ?_
      exact kj0 _ (by first | rfl | exact (if_pos c11).symm | exact (if_neg c11).symm)
set_option maxHeartbeats 4000000 in
theorem f_worth3 {l : Launch} {D : va_G} {dT : Nat → ClassId} {H0 : Heap} {r : Nat → Nat} {nx : Nat} {g : j_H} {F : Nat → Nat} {V : Nat → Nat → Int32} {nk : Nat} (h60 : g 60 = some (rcell (.ref (r 61)) (r 62) nk)) {kd bs fg m : Nat} {ks : Nat → KY} (hK : fkK r dT g kd bs fg m nk ks) (s v : Nat) (hv : v < m) (hs : s < 8 * m * m) : MC (gG l D dT H0) yX0_worth cX0_worth 7 (some .int) 9 0 0 [.ref (r 0), .int (nI s), .int (nI v), .int 3] r (fkS r dT g F V) nx (jq_i (wth (fun k a => stk kd bs m (ks k) a) nk v 3 (decA m s)) r (fkS r dT g F V) nx) := by
  obtain ⟨h61, hD, hkn, ka, h62, hks⟩ := id hK
  have hm := hD.pos
  have hm2 := hD.le
  have hmm := mm_le hm2
  refine MC.ofJ [some (.ref (r 0)), some (.int (nI s)), some (.int (nI v)), some (.int 3), none, none, none] rfl (Nat.le_of_ble_eq_true rfl) (by decide) ?_
  refine j_join (tgt := 19) (fun x => x = if nk = 0 then 0 else -1) (fun v0 hv0 => ?_) (fun kj0 => ?_)
  · skip
    refine j_istore dX0_worth_19 (by decide) rfl ?_
    refine j_iconst (v := 0) dX0_worth_21 (by decide) ?_
    refine j_istore dX0_worth_22 (by decide) rfl ?_
    obtain ⟨v1, hv1⟩ : ∃ y, y = v0 := ⟨_, rfl⟩
    rw [← hv1] at hv0 ⊢
    refine j_re (L' := [some (.ref (r 0)), some (.int (nI s)), some (.int (nI v)), some (.int 3), some (.int v1), some (.int (nI 0)), none]) rfl rfl rfl ?_
    refine j_lp2 (fun (k : Nat) (b : Int32) => fkS r dT g F V) (fun k b => [some (.ref (r 0)), some (.int (nI s)), some (.int (nI v)), some (.int 3), some (.int b), some (.int (nI k)), none]) (fun k b => k ≤ nk ∧ mxK (fun k => if (stk kd bs m (ks k) (decA m s)).2.2.1 = v then 1 else -(wth (fun k a => stk kd bs m (ks k) a) nk v 2 (stk kd bs m (ks k) (decA m s)))) (nk - k) k b = mxK (fun k => if (stk kd bs m (ks k) (decA m s)).2.2.1 = v then 1 else -(wth (fun k a => stk kd bs m (ks k) a) nk v 2 (stk kd bs m (ks k) (decA m s)))) nk 0 v1) (fun k _ => nk - k) ?_ 0 v1 ⟨Nat.zero_le _, rfl⟩
    intro k b ⟨hkK, hmx⟩ ih
    refine j_iload dX0_worth_24 rfl ?_
    refine j_aload_n dX0_worth_26 rfl ?_
    refine j_get 0 dX0_worth_27 (by first | rfl | assumption) in_X0 rfl (by decide) q153 rfl ?_
    refine j_getN 2 dX0_worth_30 (by first | rfl | assumption) in_X1 rfl (by decide) (fun _ hs => hs.1 _ qn109) rfl ?_
    refine j_icmp_ge (tgt := 100) dX0_worth_33 (by decide) (fun c33 => ?_) (fun c33 => ?_)
    · skip
      have hkk : k = nk := by
        have := (nI_leI (by omega) (by omega)).mp c33
        omega
      rw [hkk, Nat.sub_self, mxK] at hmx
      refine j_iload dX0_worth_100 rfl ?_
      refine j_iret dX0_worth_102 rfl rfl (Nat.le_refl _) (Nat.le_refl _) ?_
      refine jr_i ?_
      rw [hmx, hv0]
      show _ = if nk = 0 then 0 else mxK (fun k => if (stk kd bs m (ks k) (decA m s)).2.2.1 = v then 1 else -(wth (fun k a => stk kd bs m (ks k) a) nk v 2 (stk kd bs m (ks k) (decA m s)))) nk 0 (-1)
      by_cases hz : nk = 0
      · rw [if_pos hz, if_pos hz, hz]; rfl
      · rw [if_neg hz, if_neg hz]
    · skip
      have hkK2 : k < nk := Nat.lt_of_not_le (fun q => c33 (nI_le q (by omega)))
      refine j_iload_n dX0_worth_36 rfl ?_
      refine j_if_le (tgt := 100) dX0_worth_37 (by decide) (fun c37 => absurd c37 (by decide)) (fun c37 => ?_)
      refine j_iload dX0_worth_40 rfl ?_
      refine j_iconst (v := 1) dX0_worth_42 (by decide) ?_
      refine j_icmp_ge (tgt := 100) dX0_worth_43 (by decide) (fun c43 => ?_) (fun c43 => ?_)
      · skip
        have hb1 : ¬ b < 1 := fun q => Int32.lt_irrefl (Int32.lt_of_lt_of_le q c43)
        rw [show nk - k = (nk - (k + 1)) + 1 by omega, mxK, if_neg hb1] at hmx
        refine j_iload dX0_worth_100 rfl ?_
        refine j_iret dX0_worth_102 rfl rfl (Nat.le_refl _) (Nat.le_refl _) ?_
        refine jr_i ?_
        rw [hmx, hv0]
        show _ = if nk = 0 then 0 else mxK (fun k => if (stk kd bs m (ks k) (decA m s)).2.2.1 = v then 1 else -(wth (fun k a => stk kd bs m (ks k) a) nk v 2 (stk kd bs m (ks k) (decA m s)))) nk 0 (-1)
        by_cases hz : nk = 0
        · rw [if_pos hz, if_pos hz, hz]; rfl
        · rw [if_neg hz, if_neg hz]
      · skip
        have hb1 : b < 1 := Int32.not_le.mp c43
        rw [show nk - k = (nk - (k + 1)) + 1 by omega, mxK, if_pos hb1] at hmx
        have hox : okA m (stk kd bs m (ks k) (decA m s)) := stk_ok hD (hks k hkK2).2.2 (decA_ok hm hs)
        have hxl := encA_lt hox
        refine j_aload_n dX0_worth_46 rfl ?_
        refine j_get 0 dX0_worth_47 (by first | rfl | assumption) in_X0 rfl (by decide) q153 rfl ?_
        refine j_getN 1 dX0_worth_50 (by first | rfl | assumption) in_X1 rfl (by decide) (fun _ hs => hs.1 _ qn107) rfl ?_
        refine j_iload dX0_worth_53 rfl ?_
        refine j_aald (w := .ref (r (k + 63))) 4 k dX0_worth_55 (by first | rfl | assumption) rfl rfl rfl (by omega) (by decide) (by rw [(hks _ hkK2).1]; rfl) ?_
        refine j_iload_n dX0_worth_56 rfl ?_
        refine j_strike (i := 61) (q := ks k) dX0_worth_57 (by exact (hks k hkK2).2.1) (by exact h61) hD (hks k hkK2).2.2 hs ⟨Nat.le_of_ble_eq_true rfl, Nat.le_of_ble_eq_true rfl, Nat.le_of_ble_eq_true rfl, Nat.le_of_ble_eq_true rfl⟩ (Nat.le_of_ble_eq_true rfl) ?_
        refine j_eqi (show _ = nI (encA m (stk kd bs m (ks k) (decA m s))) from rfl) ?_
        refine j_istore dX0_worth_60 (by decide) rfl ?_
        refine j_iload dX0_worth_62 rfl ?_
        refine j_join (tgt := 89) (fun x => x = (fun k => if (stk kd bs m (ks k) (decA m s)).2.2.1 = v then 1 else -(wth (fun k a => stk kd bs m (ks k) a) nk v 2 (stk kd bs m (ks k) (decA m s)))) k) (fun v64 hv64 => ?_) (fun kj64 => ?_)
        · skip
          refine j_max dX0_worth_89 q1050 ⟨Nat.le_of_ble_eq_true rfl, Nat.le_of_ble_eq_true rfl, Nat.le_of_ble_eq_true rfl, Nat.le_of_ble_eq_true rfl⟩ ?_
          subst hv64
          refine j_istore dX0_worth_92 (by decide) rfl ?_
          refine j_iinc dX0_worth_94 rfl (by decide) rfl ?_
          refine j_goto (tgt := 24) dX0_worth_97 (by decide) ?_
          refine j_less (L' := [some (.ref (r 0)), some (.int (nI s)), some (.int (nI v)), some (.int 3), some (.int (if b < (fun k => if (stk kd bs m (ks k) (decA m s)).2.2.1 = v then 1 else -(wth (fun k a => stk kd bs m (ks k) a) nk v 2 (stk kd bs m (ks k) (decA m s)))) k then (fun k => if (stk kd bs m (ks k) (decA m s)).2.2.1 = v then 1 else -(wth (fun k a => stk kd bs m (ks k) a) nk v 2 (stk kd bs m (ks k) (decA m s)))) k else b)), some (.int (nI (k + 1))), none]) ⟨Or.inr rfl, Or.inr rfl, Or.inr rfl, Or.inr rfl, Or.inr rfl, Or.inr (by rw [← nI_inc]), Or.inl rfl, trivial⟩ ?_
          exact ih (k + 1) _ ⟨by omega, hmx⟩ (by omega)
        · skip
          refine j_aload_n dX0_worth_64 rfl ?_
          refine j_iload dX0_worth_65 rfl ?_
          refine j_callVi (f_shown1 h60 h61 hm hm2 (encA m (stk kd bs m (ks k) (decA m s))) (by omega)) dX0_worth_67 pmX0_shown q771 q773 qs14 (by first | rfl | assumption) rfl rfl rfl ⟨Nat.le_of_ble_eq_true rfl, Nat.le_of_ble_eq_true rfl⟩ ⟨Nat.le_of_ble_eq_true rfl, Nat.le_of_ble_eq_true rfl⟩ rfl (Nat.le_of_ble_eq_true rfl) ?_
          refine j_eqi (show _ = nI (stk kd bs m (ks k) (decA m s)).2.2.1 from congrArg nI (by show sS m (enc m (stk kd bs m (ks k) (decA m s)).1 (stk kd bs m (ks k) (decA m s)).2.1 (stk kd bs m (ks k) (decA m s)).2.2.1 (stk kd bs m (ks k) (decA m s)).2.2.2) = _; exact sS_enc hox.2.2.1 hox.2.2.2)) ?_
          refine j_iload_n dX0_worth_70 rfl ?_
          refine j_icmp_ne (tgt := 78) dX0_worth_71 (by decide) (fun c71 => ?_) (fun c71 => ?_)
          · skip
            have c71 : ¬ (stk kd bs m (ks k) (decA m s)).2.2.1 = v := fun q => c71 (by rw [q])
            refine j_aload_n dX0_worth_78 rfl ?_
            refine j_iload dX0_worth_79 rfl ?_
            refine j_iload_n dX0_worth_81 rfl ?_
            refine j_iload_n dX0_worth_82 rfl ?_
            refine j_iconst (v := 1) dX0_worth_83 (by decide) ?_
            refine j_isub dX0_worth_84 ?_
            refine j_eqi (show _ = (2 : Int32) by decide) ?_
            refine j_callVi (f_worth2 h60 hK (encA m (stk kd bs m (ks k) (decA m s))) v hv hxl) dX0_worth_85 pmX0_worth q1046 q1048 qs26 (by first | rfl | assumption) rfl rfl rfl ⟨Nat.le_of_ble_eq_true rfl, Nat.le_of_ble_eq_true rfl⟩ ⟨Nat.le_of_ble_eq_true rfl, Nat.le_of_ble_eq_true rfl⟩ rfl (Nat.le_of_ble_eq_true rfl) ?_
            refine j_eqi (show _ = wth (fun k a => stk kd bs m (ks k) a) nk v 2 (stk kd bs m (ks k) (decA m s)) by rw [decA_encA hox]) ?_
            refine j_ineg dX0_worth_88 ?_
            exact kj64 _ (by first | exact (if_pos c71).symm | exact (if_neg c71).symm)
          · skip
            have c71 : (stk kd bs m (ks k) (decA m s)).2.2.1 = v := (nI_eq (by have := hox.2.2.1; omega) (by omega)).mp c71
            refine j_iconst (v := 1) dX0_worth_74 (by decide) ?_
            refine j_goto (tgt := 89) dX0_worth_75 (by decide) ?_
            exact kj64 _ (by first | exact (if_pos c71).symm | exact (if_neg c71).symm)
  · skip
    refine j_iload_n dX0_worth_0 rfl ?_
    refine j_if_eq (tgt := 14) dX0_worth_1 (by decide) (fun c1 => absurd c1 (by decide)) (fun c1 => ?_)
    refine j_aload_n dX0_worth_4 rfl ?_
    refine j_get 0 dX0_worth_5 (by first | rfl | assumption) in_X0 rfl (by decide) q153 rfl ?_
    refine j_getN 2 dX0_worth_8 (by first | rfl | assumption) in_X1 rfl (by decide) (fun _ hs => hs.1 _ qn109) rfl ?_
    refine j_if_ne (tgt := 18) dX0_worth_11 (by decide) (fun c11 => ?_) (fun c11 => ?_)
    · skip
      have c11 : ¬ nk = 0 := fun q => c11 (by rw [q]; rfl)
      refine j_iconst (v := (-1)) dX0_worth_18 (by decide) ?_
      exact kj0 _ (by first | rfl | exact (if_pos c11).symm | exact (if_neg c11).symm)
    · skip
      have c11 : nk = 0 := (nI_eq (by omega) (by decide)).mp c11
      refine j_iconst (v := 0) dX0_worth_14 (by decide) ?_
      refine j_goto (tgt := 19) dX0_worth_15 (by decide) ?_
      exact kj0 _ (by first | rfl | exact (if_pos c11).symm | exact (if_neg c11).symm)
set_option maxHeartbeats 4000000 in
theorem f_worth4 {l : Launch} {D : va_G} {dT : Nat → ClassId} {H0 : Heap} {r : Nat → Nat} {nx : Nat} {g : j_H} {F : Nat → Nat} {V : Nat → Nat → Int32} {nk : Nat} (h60 : g 60 = some (rcell (.ref (r 61)) (r 62) nk)) {kd bs fg m : Nat} {ks : Nat → KY} (hK : fkK r dT g kd bs fg m nk ks) (s v : Nat) (hv : v < m) (hs : s < 8 * m * m) : MC (gG l D dT H0) yX0_worth cX0_worth 7 (some .int) 10 0 0 [.ref (r 0), .int (nI s), .int (nI v), .int 4] r (fkS r dT g F V) nx (jq_i (wth (fun k a => stk kd bs m (ks k) a) nk v 4 (decA m s)) r (fkS r dT g F V) nx) := by
  obtain ⟨h61, hD, hkn, ka, h62, hks⟩ := id hK
  have hm := hD.pos
  have hm2 := hD.le
  have hmm := mm_le hm2
  refine MC.ofJ [some (.ref (r 0)), some (.int (nI s)), some (.int (nI v)), some (.int 4), none, none, none] rfl (Nat.le_of_ble_eq_true rfl) (by decide) ?_
  refine j_join (tgt := 19) (fun x => x = if nk = 0 then 0 else -1) (fun v0 hv0 => ?_) (fun kj0 => ?_)
  · skip
    refine j_istore dX0_worth_19 (by decide) rfl ?_
    refine j_iconst (v := 0) dX0_worth_21 (by decide) ?_
    refine j_istore dX0_worth_22 (by decide) rfl ?_
    obtain ⟨v1, hv1⟩ : ∃ y, y = v0 := ⟨_, rfl⟩
    rw [← hv1] at hv0 ⊢
    refine j_re (L' := [some (.ref (r 0)), some (.int (nI s)), some (.int (nI v)), some (.int 4), some (.int v1), some (.int (nI 0)), none]) rfl rfl rfl ?_
    refine j_lp2 (fun (k : Nat) (b : Int32) => fkS r dT g F V) (fun k b => [some (.ref (r 0)), some (.int (nI s)), some (.int (nI v)), some (.int 4), some (.int b), some (.int (nI k)), none]) (fun k b => k ≤ nk ∧ mxK (fun k => if (stk kd bs m (ks k) (decA m s)).2.2.1 = v then 1 else -(wth (fun k a => stk kd bs m (ks k) a) nk v 3 (stk kd bs m (ks k) (decA m s)))) (nk - k) k b = mxK (fun k => if (stk kd bs m (ks k) (decA m s)).2.2.1 = v then 1 else -(wth (fun k a => stk kd bs m (ks k) a) nk v 3 (stk kd bs m (ks k) (decA m s)))) nk 0 v1) (fun k _ => nk - k) ?_ 0 v1 ⟨Nat.zero_le _, rfl⟩
    intro k b ⟨hkK, hmx⟩ ih
    refine j_iload dX0_worth_24 rfl ?_
    refine j_aload_n dX0_worth_26 rfl ?_
    refine j_get 0 dX0_worth_27 (by first | rfl | assumption) in_X0 rfl (by decide) q153 rfl ?_
    refine j_getN 2 dX0_worth_30 (by first | rfl | assumption) in_X1 rfl (by decide) (fun _ hs => hs.1 _ qn109) rfl ?_
    refine j_icmp_ge (tgt := 100) dX0_worth_33 (by decide) (fun c33 => ?_) (fun c33 => ?_)
    · skip
      have hkk : k = nk := by
        have := (nI_leI (by omega) (by omega)).mp c33
        omega
      rw [hkk, Nat.sub_self, mxK] at hmx
      refine j_iload dX0_worth_100 rfl ?_
      refine j_iret dX0_worth_102 rfl rfl (Nat.le_refl _) (Nat.le_refl _) ?_
      refine jr_i ?_
      rw [hmx, hv0]
      show _ = if nk = 0 then 0 else mxK (fun k => if (stk kd bs m (ks k) (decA m s)).2.2.1 = v then 1 else -(wth (fun k a => stk kd bs m (ks k) a) nk v 3 (stk kd bs m (ks k) (decA m s)))) nk 0 (-1)
      by_cases hz : nk = 0
      · rw [if_pos hz, if_pos hz, hz]; rfl
      · rw [if_neg hz, if_neg hz]
    · skip
      have hkK2 : k < nk := Nat.lt_of_not_le (fun q => c33 (nI_le q (by omega)))
      refine j_iload_n dX0_worth_36 rfl ?_
      refine j_if_le (tgt := 100) dX0_worth_37 (by decide) (fun c37 => absurd c37 (by decide)) (fun c37 => ?_)
      refine j_iload dX0_worth_40 rfl ?_
      refine j_iconst (v := 1) dX0_worth_42 (by decide) ?_
      refine j_icmp_ge (tgt := 100) dX0_worth_43 (by decide) (fun c43 => ?_) (fun c43 => ?_)
      · skip
        have hb1 : ¬ b < 1 := fun q => Int32.lt_irrefl (Int32.lt_of_lt_of_le q c43)
        rw [show nk - k = (nk - (k + 1)) + 1 by omega, mxK, if_neg hb1] at hmx
        refine j_iload dX0_worth_100 rfl ?_
        refine j_iret dX0_worth_102 rfl rfl (Nat.le_refl _) (Nat.le_refl _) ?_
        refine jr_i ?_
        rw [hmx, hv0]
        show _ = if nk = 0 then 0 else mxK (fun k => if (stk kd bs m (ks k) (decA m s)).2.2.1 = v then 1 else -(wth (fun k a => stk kd bs m (ks k) a) nk v 3 (stk kd bs m (ks k) (decA m s)))) nk 0 (-1)
        by_cases hz : nk = 0
        · rw [if_pos hz, if_pos hz, hz]; rfl
        · rw [if_neg hz, if_neg hz]
      · skip
        have hb1 : b < 1 := Int32.not_le.mp c43
        rw [show nk - k = (nk - (k + 1)) + 1 by omega, mxK, if_pos hb1] at hmx
        have hox : okA m (stk kd bs m (ks k) (decA m s)) := stk_ok hD (hks k hkK2).2.2 (decA_ok hm hs)
        have hxl := encA_lt hox
        refine j_aload_n dX0_worth_46 rfl ?_
        refine j_get 0 dX0_worth_47 (by first | rfl | assumption) in_X0 rfl (by decide) q153 rfl ?_
        refine j_getN 1 dX0_worth_50 (by first | rfl | assumption) in_X1 rfl (by decide) (fun _ hs => hs.1 _ qn107) rfl ?_
        refine j_iload dX0_worth_53 rfl ?_
        refine j_aald (w := .ref (r (k + 63))) 4 k dX0_worth_55 (by first | rfl | assumption) rfl rfl rfl (by omega) (by decide) (by rw [(hks _ hkK2).1]; rfl) ?_
        refine j_iload_n dX0_worth_56 rfl ?_
        refine j_strike (i := 61) (q := ks k) dX0_worth_57 (by exact (hks k hkK2).2.1) (by exact h61) hD (hks k hkK2).2.2 hs ⟨Nat.le_of_ble_eq_true rfl, Nat.le_of_ble_eq_true rfl, Nat.le_of_ble_eq_true rfl, Nat.le_of_ble_eq_true rfl⟩ (Nat.le_of_ble_eq_true rfl) ?_
        refine j_eqi (show _ = nI (encA m (stk kd bs m (ks k) (decA m s))) from rfl) ?_
        refine j_istore dX0_worth_60 (by decide) rfl ?_
        refine j_iload dX0_worth_62 rfl ?_
        refine j_join (tgt := 89) (fun x => x = (fun k => if (stk kd bs m (ks k) (decA m s)).2.2.1 = v then 1 else -(wth (fun k a => stk kd bs m (ks k) a) nk v 3 (stk kd bs m (ks k) (decA m s)))) k) (fun v64 hv64 => ?_) (fun kj64 => ?_)
        · skip
          refine j_max dX0_worth_89 q1050 ⟨Nat.le_of_ble_eq_true rfl, Nat.le_of_ble_eq_true rfl, Nat.le_of_ble_eq_true rfl, Nat.le_of_ble_eq_true rfl⟩ ?_
          subst hv64
          refine j_istore dX0_worth_92 (by decide) rfl ?_
          refine j_iinc dX0_worth_94 rfl (by decide) rfl ?_
          refine j_goto (tgt := 24) dX0_worth_97 (by decide) ?_
          refine j_less (L' := [some (.ref (r 0)), some (.int (nI s)), some (.int (nI v)), some (.int 4), some (.int (if b < (fun k => if (stk kd bs m (ks k) (decA m s)).2.2.1 = v then 1 else -(wth (fun k a => stk kd bs m (ks k) a) nk v 3 (stk kd bs m (ks k) (decA m s)))) k then (fun k => if (stk kd bs m (ks k) (decA m s)).2.2.1 = v then 1 else -(wth (fun k a => stk kd bs m (ks k) a) nk v 3 (stk kd bs m (ks k) (decA m s)))) k else b)), some (.int (nI (k + 1))), none]) ⟨Or.inr rfl, Or.inr rfl, Or.inr rfl, Or.inr rfl, Or.inr rfl, Or.inr (by rw [← nI_inc]), Or.inl rfl, trivial⟩ ?_
          exact ih (k + 1) _ ⟨by omega, hmx⟩ (by omega)
        · skip
          refine j_aload_n dX0_worth_64 rfl ?_
          refine j_iload dX0_worth_65 rfl ?_
          refine j_callVi (f_shown1 h60 h61 hm hm2 (encA m (stk kd bs m (ks k) (decA m s))) (by omega)) dX0_worth_67 pmX0_shown q771 q773 qs14 (by first | rfl | assumption) rfl rfl rfl ⟨Nat.le_of_ble_eq_true rfl, Nat.le_of_ble_eq_true rfl⟩ ⟨Nat.le_of_ble_eq_true rfl, Nat.le_of_ble_eq_true rfl⟩ rfl (Nat.le_of_ble_eq_true rfl) ?_
          refine j_eqi (show _ = nI (stk kd bs m (ks k) (decA m s)).2.2.1 from congrArg nI (by show sS m (enc m (stk kd bs m (ks k) (decA m s)).1 (stk kd bs m (ks k) (decA m s)).2.1 (stk kd bs m (ks k) (decA m s)).2.2.1 (stk kd bs m (ks k) (decA m s)).2.2.2) = _; exact sS_enc hox.2.2.1 hox.2.2.2)) ?_
          refine j_iload_n dX0_worth_70 rfl ?_
          refine j_icmp_ne (tgt := 78) dX0_worth_71 (by decide) (fun c71 => ?_) (fun c71 => ?_)
          · skip
            have c71 : ¬ (stk kd bs m (ks k) (decA m s)).2.2.1 = v := fun q => c71 (by rw [q])
            refine j_aload_n dX0_worth_78 rfl ?_
            refine j_iload dX0_worth_79 rfl ?_
            refine j_iload_n dX0_worth_81 rfl ?_
            refine j_iload_n dX0_worth_82 rfl ?_
            refine j_iconst (v := 1) dX0_worth_83 (by decide) ?_
            refine j_isub dX0_worth_84 ?_
            refine j_eqi (show _ = (3 : Int32) by decide) ?_
            refine j_callVi (f_worth3 h60 hK (encA m (stk kd bs m (ks k) (decA m s))) v hv hxl) dX0_worth_85 pmX0_worth q1046 q1048 qs26 (by first | rfl | assumption) rfl rfl rfl ⟨Nat.le_of_ble_eq_true rfl, Nat.le_of_ble_eq_true rfl⟩ ⟨Nat.le_of_ble_eq_true rfl, Nat.le_of_ble_eq_true rfl⟩ rfl (Nat.le_of_ble_eq_true rfl) ?_
            refine j_eqi (show _ = wth (fun k a => stk kd bs m (ks k) a) nk v 3 (stk kd bs m (ks k) (decA m s)) by rw [decA_encA hox]) ?_
            refine j_ineg dX0_worth_88 ?_
            exact kj64 _ (by first | exact (if_pos c71).symm | exact (if_neg c71).symm)
          · skip
            have c71 : (stk kd bs m (ks k) (decA m s)).2.2.1 = v := (nI_eq (by have := hox.2.2.1; omega) (by omega)).mp c71
            refine j_iconst (v := 1) dX0_worth_74 (by decide) ?_
            refine j_goto (tgt := 89) dX0_worth_75 (by decide) ?_
            exact kj64 _ (by first | exact (if_pos c71).symm | exact (if_neg c71).symm)
  · skip
    refine j_iload_n dX0_worth_0 rfl ?_
    refine j_if_eq (tgt := 14) dX0_worth_1 (by decide) (fun c1 => absurd c1 (by decide)) (fun c1 => ?_)
    refine j_aload_n dX0_worth_4 rfl ?_
    refine j_get 0 dX0_worth_5 (by first | rfl | assumption) in_X0 rfl (by decide) q153 rfl ?_
    refine j_getN 2 dX0_worth_8 (by first | rfl | assumption) in_X1 rfl (by decide) (fun _ hs => hs.1 _ qn109) rfl ?_
    refine j_if_ne (tgt := 18) dX0_worth_11 (by decide) (fun c11 => ?_) (fun c11 => ?_)
    · skip
      have c11 : ¬ nk = 0 := fun q => c11 (by rw [q]; rfl)
      refine j_iconst (v := (-1)) dX0_worth_18 (by decide) ?_
      exact kj0 _ (by first | rfl | exact (if_pos c11).symm | exact (if_neg c11).symm)
    · skip
      have c11 : nk = 0 := (nI_eq (by omega) (by decide)).mp c11
      refine j_iconst (v := 0) dX0_worth_14 (by decide) ?_
      refine j_goto (tgt := 19) dX0_worth_15 (by decide) ?_
      exact kj0 _ (by first | rfl | exact (if_pos c11).symm | exact (if_neg c11).symm)
set_option maxHeartbeats 4000000 in
theorem f_worth5 {l : Launch} {D : va_G} {dT : Nat → ClassId} {H0 : Heap} {r : Nat → Nat} {nx : Nat} {g : j_H} {F : Nat → Nat} {V : Nat → Nat → Int32} {nk : Nat} (h60 : g 60 = some (rcell (.ref (r 61)) (r 62) nk)) {kd bs fg m : Nat} {ks : Nat → KY} (hK : fkK r dT g kd bs fg m nk ks) (s v : Nat) (hv : v < m) (hs : s < 8 * m * m) : MC (gG l D dT H0) yX0_worth cX0_worth 7 (some .int) 11 0 0 [.ref (r 0), .int (nI s), .int (nI v), .int 5] r (fkS r dT g F V) nx (jq_i (wth (fun k a => stk kd bs m (ks k) a) nk v 5 (decA m s)) r (fkS r dT g F V) nx) := by
  obtain ⟨h61, hD, hkn, ka, h62, hks⟩ := id hK
  have hm := hD.pos
  have hm2 := hD.le
  have hmm := mm_le hm2
  refine MC.ofJ [some (.ref (r 0)), some (.int (nI s)), some (.int (nI v)), some (.int 5), none, none, none] rfl (Nat.le_of_ble_eq_true rfl) (by decide) ?_
  refine j_join (tgt := 19) (fun x => x = if nk = 0 then 0 else -1) (fun v0 hv0 => ?_) (fun kj0 => ?_)
  · skip
    refine j_istore dX0_worth_19 (by decide) rfl ?_
    refine j_iconst (v := 0) dX0_worth_21 (by decide) ?_
    refine j_istore dX0_worth_22 (by decide) rfl ?_
    obtain ⟨v1, hv1⟩ : ∃ y, y = v0 := ⟨_, rfl⟩
    rw [← hv1] at hv0 ⊢
    refine j_re (L' := [some (.ref (r 0)), some (.int (nI s)), some (.int (nI v)), some (.int 5), some (.int v1), some (.int (nI 0)), none]) rfl rfl rfl ?_
    refine j_lp2 (fun (k : Nat) (b : Int32) => fkS r dT g F V) (fun k b => [some (.ref (r 0)), some (.int (nI s)), some (.int (nI v)), some (.int 5), some (.int b), some (.int (nI k)), none]) (fun k b => k ≤ nk ∧ mxK (fun k => if (stk kd bs m (ks k) (decA m s)).2.2.1 = v then 1 else -(wth (fun k a => stk kd bs m (ks k) a) nk v 4 (stk kd bs m (ks k) (decA m s)))) (nk - k) k b = mxK (fun k => if (stk kd bs m (ks k) (decA m s)).2.2.1 = v then 1 else -(wth (fun k a => stk kd bs m (ks k) a) nk v 4 (stk kd bs m (ks k) (decA m s)))) nk 0 v1) (fun k _ => nk - k) ?_ 0 v1 ⟨Nat.zero_le _, rfl⟩
    intro k b ⟨hkK, hmx⟩ ih
    refine j_iload dX0_worth_24 rfl ?_
    refine j_aload_n dX0_worth_26 rfl ?_
    refine j_get 0 dX0_worth_27 (by first | rfl | assumption) in_X0 rfl (by decide) q153 rfl ?_
    refine j_getN 2 dX0_worth_30 (by first | rfl | assumption) in_X1 rfl (by decide) (fun _ hs => hs.1 _ qn109) rfl ?_
    refine j_icmp_ge (tgt := 100) dX0_worth_33 (by decide) (fun c33 => ?_) (fun c33 => ?_)
    · skip
      have hkk : k = nk := by
        have := (nI_leI (by omega) (by omega)).mp c33
        omega
      rw [hkk, Nat.sub_self, mxK] at hmx
      refine j_iload dX0_worth_100 rfl ?_
      refine j_iret dX0_worth_102 rfl rfl (Nat.le_refl _) (Nat.le_refl _) ?_
      refine jr_i ?_
      rw [hmx, hv0]
      show _ = if nk = 0 then 0 else mxK (fun k => if (stk kd bs m (ks k) (decA m s)).2.2.1 = v then 1 else -(wth (fun k a => stk kd bs m (ks k) a) nk v 4 (stk kd bs m (ks k) (decA m s)))) nk 0 (-1)
      by_cases hz : nk = 0
      · rw [if_pos hz, if_pos hz, hz]; rfl
      · rw [if_neg hz, if_neg hz]
    · skip
      have hkK2 : k < nk := Nat.lt_of_not_le (fun q => c33 (nI_le q (by omega)))
      refine j_iload_n dX0_worth_36 rfl ?_
      refine j_if_le (tgt := 100) dX0_worth_37 (by decide) (fun c37 => absurd c37 (by decide)) (fun c37 => ?_)
      refine j_iload dX0_worth_40 rfl ?_
      refine j_iconst (v := 1) dX0_worth_42 (by decide) ?_
      refine j_icmp_ge (tgt := 100) dX0_worth_43 (by decide) (fun c43 => ?_) (fun c43 => ?_)
      · skip
        have hb1 : ¬ b < 1 := fun q => Int32.lt_irrefl (Int32.lt_of_lt_of_le q c43)
        rw [show nk - k = (nk - (k + 1)) + 1 by omega, mxK, if_neg hb1] at hmx
        refine j_iload dX0_worth_100 rfl ?_
        refine j_iret dX0_worth_102 rfl rfl (Nat.le_refl _) (Nat.le_refl _) ?_
        refine jr_i ?_
        rw [hmx, hv0]
        show _ = if nk = 0 then 0 else mxK (fun k => if (stk kd bs m (ks k) (decA m s)).2.2.1 = v then 1 else -(wth (fun k a => stk kd bs m (ks k) a) nk v 4 (stk kd bs m (ks k) (decA m s)))) nk 0 (-1)
        by_cases hz : nk = 0
        · rw [if_pos hz, if_pos hz, hz]; rfl
        · rw [if_neg hz, if_neg hz]
      · skip
        have hb1 : b < 1 := Int32.not_le.mp c43
        rw [show nk - k = (nk - (k + 1)) + 1 by omega, mxK, if_pos hb1] at hmx
        have hox : okA m (stk kd bs m (ks k) (decA m s)) := stk_ok hD (hks k hkK2).2.2 (decA_ok hm hs)
        have hxl := encA_lt hox
        refine j_aload_n dX0_worth_46 rfl ?_
        refine j_get 0 dX0_worth_47 (by first | rfl | assumption) in_X0 rfl (by decide) q153 rfl ?_
        refine j_getN 1 dX0_worth_50 (by first | rfl | assumption) in_X1 rfl (by decide) (fun _ hs => hs.1 _ qn107) rfl ?_
        refine j_iload dX0_worth_53 rfl ?_
        refine j_aald (w := .ref (r (k + 63))) 4 k dX0_worth_55 (by first | rfl | assumption) rfl rfl rfl (by omega) (by decide) (by rw [(hks _ hkK2).1]; rfl) ?_
        refine j_iload_n dX0_worth_56 rfl ?_
        refine j_strike (i := 61) (q := ks k) dX0_worth_57 (by exact (hks k hkK2).2.1) (by exact h61) hD (hks k hkK2).2.2 hs ⟨Nat.le_of_ble_eq_true rfl, Nat.le_of_ble_eq_true rfl, Nat.le_of_ble_eq_true rfl, Nat.le_of_ble_eq_true rfl⟩ (Nat.le_of_ble_eq_true rfl) ?_
        refine j_eqi (show _ = nI (encA m (stk kd bs m (ks k) (decA m s))) from rfl) ?_
        refine j_istore dX0_worth_60 (by decide) rfl ?_
        refine j_iload dX0_worth_62 rfl ?_
        refine j_join (tgt := 89) (fun x => x = (fun k => if (stk kd bs m (ks k) (decA m s)).2.2.1 = v then 1 else -(wth (fun k a => stk kd bs m (ks k) a) nk v 4 (stk kd bs m (ks k) (decA m s)))) k) (fun v64 hv64 => ?_) (fun kj64 => ?_)
        · skip
          refine j_max dX0_worth_89 q1050 ⟨Nat.le_of_ble_eq_true rfl, Nat.le_of_ble_eq_true rfl, Nat.le_of_ble_eq_true rfl, Nat.le_of_ble_eq_true rfl⟩ ?_
          subst hv64
          refine j_istore dX0_worth_92 (by decide) rfl ?_
          refine j_iinc dX0_worth_94 rfl (by decide) rfl ?_
          refine j_goto (tgt := 24) dX0_worth_97 (by decide) ?_
          refine j_less (L' := [some (.ref (r 0)), some (.int (nI s)), some (.int (nI v)), some (.int 5), some (.int (if b < (fun k => if (stk kd bs m (ks k) (decA m s)).2.2.1 = v then 1 else -(wth (fun k a => stk kd bs m (ks k) a) nk v 4 (stk kd bs m (ks k) (decA m s)))) k then (fun k => if (stk kd bs m (ks k) (decA m s)).2.2.1 = v then 1 else -(wth (fun k a => stk kd bs m (ks k) a) nk v 4 (stk kd bs m (ks k) (decA m s)))) k else b)), some (.int (nI (k + 1))), none]) ⟨Or.inr rfl, Or.inr rfl, Or.inr rfl, Or.inr rfl, Or.inr rfl, Or.inr (by rw [← nI_inc]), Or.inl rfl, trivial⟩ ?_
          exact ih (k + 1) _ ⟨by omega, hmx⟩ (by omega)
        · skip
          refine j_aload_n dX0_worth_64 rfl ?_
          refine j_iload dX0_worth_65 rfl ?_
          refine j_callVi (f_shown1 h60 h61 hm hm2 (encA m (stk kd bs m (ks k) (decA m s))) (by omega)) dX0_worth_67 pmX0_shown q771 q773 qs14 (by first | rfl | assumption) rfl rfl rfl ⟨Nat.le_of_ble_eq_true rfl, Nat.le_of_ble_eq_true rfl⟩ ⟨Nat.le_of_ble_eq_true rfl, Nat.le_of_ble_eq_true rfl⟩ rfl (Nat.le_of_ble_eq_true rfl) ?_
          refine j_eqi (show _ = nI (stk kd bs m (ks k) (decA m s)).2.2.1 from congrArg nI (by show sS m (enc m (stk kd bs m (ks k) (decA m s)).1 (stk kd bs m (ks k) (decA m s)).2.1 (stk kd bs m (ks k) (decA m s)).2.2.1 (stk kd bs m (ks k) (decA m s)).2.2.2) = _; exact sS_enc hox.2.2.1 hox.2.2.2)) ?_
          refine j_iload_n dX0_worth_70 rfl ?_
          refine j_icmp_ne (tgt := 78) dX0_worth_71 (by decide) (fun c71 => ?_) (fun c71 => ?_)
          · skip
            have c71 : ¬ (stk kd bs m (ks k) (decA m s)).2.2.1 = v := fun q => c71 (by rw [q])
            refine j_aload_n dX0_worth_78 rfl ?_
            refine j_iload dX0_worth_79 rfl ?_
            refine j_iload_n dX0_worth_81 rfl ?_
            refine j_iload_n dX0_worth_82 rfl ?_
            refine j_iconst (v := 1) dX0_worth_83 (by decide) ?_
            refine j_isub dX0_worth_84 ?_
            refine j_eqi (show _ = (4 : Int32) by decide) ?_
            refine j_callVi (f_worth4 h60 hK (encA m (stk kd bs m (ks k) (decA m s))) v hv hxl) dX0_worth_85 pmX0_worth q1046 q1048 qs26 (by first | rfl | assumption) rfl rfl rfl ⟨Nat.le_of_ble_eq_true rfl, Nat.le_of_ble_eq_true rfl⟩ ⟨Nat.le_of_ble_eq_true rfl, Nat.le_of_ble_eq_true rfl⟩ rfl (Nat.le_of_ble_eq_true rfl) ?_
            refine j_eqi (show _ = wth (fun k a => stk kd bs m (ks k) a) nk v 4 (stk kd bs m (ks k) (decA m s)) by rw [decA_encA hox]) ?_
            refine j_ineg dX0_worth_88 ?_
            exact kj64 _ (by first | exact (if_pos c71).symm | exact (if_neg c71).symm)
          · skip
            have c71 : (stk kd bs m (ks k) (decA m s)).2.2.1 = v := (nI_eq (by have := hox.2.2.1; omega) (by omega)).mp c71
            refine j_iconst (v := 1) dX0_worth_74 (by decide) ?_
            refine j_goto (tgt := 89) dX0_worth_75 (by decide) ?_
            exact kj64 _ (by first | exact (if_pos c71).symm | exact (if_neg c71).symm)
  · skip
    refine j_iload_n dX0_worth_0 rfl ?_
    refine j_if_eq (tgt := 14) dX0_worth_1 (by decide) (fun c1 => absurd c1 (by decide)) (fun c1 => ?_)
    refine j_aload_n dX0_worth_4 rfl ?_
    refine j_get 0 dX0_worth_5 (by first | rfl | assumption) in_X0 rfl (by decide) q153 rfl ?_
    refine j_getN 2 dX0_worth_8 (by first | rfl | assumption) in_X1 rfl (by decide) (fun _ hs => hs.1 _ qn109) rfl ?_
    refine j_if_ne (tgt := 18) dX0_worth_11 (by decide) (fun c11 => ?_) (fun c11 => ?_)
    · skip
      have c11 : ¬ nk = 0 := fun q => c11 (by rw [q]; rfl)
      refine j_iconst (v := (-1)) dX0_worth_18 (by decide) ?_
      exact kj0 _ (by first | rfl | exact (if_pos c11).symm | exact (if_neg c11).symm)
    · skip
      have c11 : nk = 0 := (nI_eq (by omega) (by decide)).mp c11
      refine j_iconst (v := 0) dX0_worth_14 (by decide) ?_
      refine j_goto (tgt := 19) dX0_worth_15 (by decide) ?_
      exact kj0 _ (by first | rfl | exact (if_pos c11).symm | exact (if_neg c11).symm)
set_option maxHeartbeats 4000000 in
theorem f_worth6 {l : Launch} {D : va_G} {dT : Nat → ClassId} {H0 : Heap} {r : Nat → Nat} {nx : Nat} {g : j_H} {F : Nat → Nat} {V : Nat → Nat → Int32} {nk : Nat} (h60 : g 60 = some (rcell (.ref (r 61)) (r 62) nk)) {kd bs fg m : Nat} {ks : Nat → KY} (hK : fkK r dT g kd bs fg m nk ks) (s v : Nat) (hv : v < m) (hs : s < 8 * m * m) : MC (gG l D dT H0) yX0_worth cX0_worth 7 (some .int) 12 0 0 [.ref (r 0), .int (nI s), .int (nI v), .int 6] r (fkS r dT g F V) nx (jq_i (wth (fun k a => stk kd bs m (ks k) a) nk v 6 (decA m s)) r (fkS r dT g F V) nx) := by
  obtain ⟨h61, hD, hkn, ka, h62, hks⟩ := id hK
  have hm := hD.pos
  have hm2 := hD.le
  have hmm := mm_le hm2
  refine MC.ofJ [some (.ref (r 0)), some (.int (nI s)), some (.int (nI v)), some (.int 6), none, none, none] rfl (Nat.le_of_ble_eq_true rfl) (by decide) ?_
  refine j_join (tgt := 19) (fun x => x = if nk = 0 then 0 else -1) (fun v0 hv0 => ?_) (fun kj0 => ?_)
  · skip
    refine j_istore dX0_worth_19 (by decide) rfl ?_
    refine j_iconst (v := 0) dX0_worth_21 (by decide) ?_
    refine j_istore dX0_worth_22 (by decide) rfl ?_
    obtain ⟨v1, hv1⟩ : ∃ y, y = v0 := ⟨_, rfl⟩
    rw [← hv1] at hv0 ⊢
    refine j_re (L' := [some (.ref (r 0)), some (.int (nI s)), some (.int (nI v)), some (.int 6), some (.int v1), some (.int (nI 0)), none]) rfl rfl rfl ?_
    refine j_lp2 (fun (k : Nat) (b : Int32) => fkS r dT g F V) (fun k b => [some (.ref (r 0)), some (.int (nI s)), some (.int (nI v)), some (.int 6), some (.int b), some (.int (nI k)), none]) (fun k b => k ≤ nk ∧ mxK (fun k => if (stk kd bs m (ks k) (decA m s)).2.2.1 = v then 1 else -(wth (fun k a => stk kd bs m (ks k) a) nk v 5 (stk kd bs m (ks k) (decA m s)))) (nk - k) k b = mxK (fun k => if (stk kd bs m (ks k) (decA m s)).2.2.1 = v then 1 else -(wth (fun k a => stk kd bs m (ks k) a) nk v 5 (stk kd bs m (ks k) (decA m s)))) nk 0 v1) (fun k _ => nk - k) ?_ 0 v1 ⟨Nat.zero_le _, rfl⟩
    intro k b ⟨hkK, hmx⟩ ih
    refine j_iload dX0_worth_24 rfl ?_
    refine j_aload_n dX0_worth_26 rfl ?_
    refine j_get 0 dX0_worth_27 (by first | rfl | assumption) in_X0 rfl (by decide) q153 rfl ?_
    refine j_getN 2 dX0_worth_30 (by first | rfl | assumption) in_X1 rfl (by decide) (fun _ hs => hs.1 _ qn109) rfl ?_
    refine j_icmp_ge (tgt := 100) dX0_worth_33 (by decide) (fun c33 => ?_) (fun c33 => ?_)
    · skip
      have hkk : k = nk := by
        have := (nI_leI (by omega) (by omega)).mp c33
        omega
      rw [hkk, Nat.sub_self, mxK] at hmx
      refine j_iload dX0_worth_100 rfl ?_
      refine j_iret dX0_worth_102 rfl rfl (Nat.le_refl _) (Nat.le_refl _) ?_
      refine jr_i ?_
      rw [hmx, hv0]
      show _ = if nk = 0 then 0 else mxK (fun k => if (stk kd bs m (ks k) (decA m s)).2.2.1 = v then 1 else -(wth (fun k a => stk kd bs m (ks k) a) nk v 5 (stk kd bs m (ks k) (decA m s)))) nk 0 (-1)
      by_cases hz : nk = 0
      · rw [if_pos hz, if_pos hz, hz]; rfl
      · rw [if_neg hz, if_neg hz]
    · skip
      have hkK2 : k < nk := Nat.lt_of_not_le (fun q => c33 (nI_le q (by omega)))
      refine j_iload_n dX0_worth_36 rfl ?_
      refine j_if_le (tgt := 100) dX0_worth_37 (by decide) (fun c37 => absurd c37 (by decide)) (fun c37 => ?_)
      refine j_iload dX0_worth_40 rfl ?_
      refine j_iconst (v := 1) dX0_worth_42 (by decide) ?_
      refine j_icmp_ge (tgt := 100) dX0_worth_43 (by decide) (fun c43 => ?_) (fun c43 => ?_)
      · skip
        have hb1 : ¬ b < 1 := fun q => Int32.lt_irrefl (Int32.lt_of_lt_of_le q c43)
        rw [show nk - k = (nk - (k + 1)) + 1 by omega, mxK, if_neg hb1] at hmx
        refine j_iload dX0_worth_100 rfl ?_
        refine j_iret dX0_worth_102 rfl rfl (Nat.le_refl _) (Nat.le_refl _) ?_
        refine jr_i ?_
        rw [hmx, hv0]
        show _ = if nk = 0 then 0 else mxK (fun k => if (stk kd bs m (ks k) (decA m s)).2.2.1 = v then 1 else -(wth (fun k a => stk kd bs m (ks k) a) nk v 5 (stk kd bs m (ks k) (decA m s)))) nk 0 (-1)
        by_cases hz : nk = 0
        · rw [if_pos hz, if_pos hz, hz]; rfl
        · rw [if_neg hz, if_neg hz]
      · skip
        have hb1 : b < 1 := Int32.not_le.mp c43
        rw [show nk - k = (nk - (k + 1)) + 1 by omega, mxK, if_pos hb1] at hmx
        have hox : okA m (stk kd bs m (ks k) (decA m s)) := stk_ok hD (hks k hkK2).2.2 (decA_ok hm hs)
        have hxl := encA_lt hox
        refine j_aload_n dX0_worth_46 rfl ?_
        refine j_get 0 dX0_worth_47 (by first | rfl | assumption) in_X0 rfl (by decide) q153 rfl ?_
        refine j_getN 1 dX0_worth_50 (by first | rfl | assumption) in_X1 rfl (by decide) (fun _ hs => hs.1 _ qn107) rfl ?_
        refine j_iload dX0_worth_53 rfl ?_
        refine j_aald (w := .ref (r (k + 63))) 4 k dX0_worth_55 (by first | rfl | assumption) rfl rfl rfl (by omega) (by decide) (by rw [(hks _ hkK2).1]; rfl) ?_
        refine j_iload_n dX0_worth_56 rfl ?_
        refine j_strike (i := 61) (q := ks k) dX0_worth_57 (by exact (hks k hkK2).2.1) (by exact h61) hD (hks k hkK2).2.2 hs ⟨Nat.le_of_ble_eq_true rfl, Nat.le_of_ble_eq_true rfl, Nat.le_of_ble_eq_true rfl, Nat.le_of_ble_eq_true rfl⟩ (Nat.le_of_ble_eq_true rfl) ?_
        refine j_eqi (show _ = nI (encA m (stk kd bs m (ks k) (decA m s))) from rfl) ?_
        refine j_istore dX0_worth_60 (by decide) rfl ?_
        refine j_iload dX0_worth_62 rfl ?_
        refine j_join (tgt := 89) (fun x => x = (fun k => if (stk kd bs m (ks k) (decA m s)).2.2.1 = v then 1 else -(wth (fun k a => stk kd bs m (ks k) a) nk v 5 (stk kd bs m (ks k) (decA m s)))) k) (fun v64 hv64 => ?_) (fun kj64 => ?_)
        · skip
          refine j_max dX0_worth_89 q1050 ⟨Nat.le_of_ble_eq_true rfl, Nat.le_of_ble_eq_true rfl, Nat.le_of_ble_eq_true rfl, Nat.le_of_ble_eq_true rfl⟩ ?_
          subst hv64
          refine j_istore dX0_worth_92 (by decide) rfl ?_
          refine j_iinc dX0_worth_94 rfl (by decide) rfl ?_
          refine j_goto (tgt := 24) dX0_worth_97 (by decide) ?_
          refine j_less (L' := [some (.ref (r 0)), some (.int (nI s)), some (.int (nI v)), some (.int 6), some (.int (if b < (fun k => if (stk kd bs m (ks k) (decA m s)).2.2.1 = v then 1 else -(wth (fun k a => stk kd bs m (ks k) a) nk v 5 (stk kd bs m (ks k) (decA m s)))) k then (fun k => if (stk kd bs m (ks k) (decA m s)).2.2.1 = v then 1 else -(wth (fun k a => stk kd bs m (ks k) a) nk v 5 (stk kd bs m (ks k) (decA m s)))) k else b)), some (.int (nI (k + 1))), none]) ⟨Or.inr rfl, Or.inr rfl, Or.inr rfl, Or.inr rfl, Or.inr rfl, Or.inr (by rw [← nI_inc]), Or.inl rfl, trivial⟩ ?_
          exact ih (k + 1) _ ⟨by omega, hmx⟩ (by omega)
        · skip
          refine j_aload_n dX0_worth_64 rfl ?_
          refine j_iload dX0_worth_65 rfl ?_
          refine j_callVi (f_shown1 h60 h61 hm hm2 (encA m (stk kd bs m (ks k) (decA m s))) (by omega)) dX0_worth_67 pmX0_shown q771 q773 qs14 (by first | rfl | assumption) rfl rfl rfl ⟨Nat.le_of_ble_eq_true rfl, Nat.le_of_ble_eq_true rfl⟩ ⟨Nat.le_of_ble_eq_true rfl, Nat.le_of_ble_eq_true rfl⟩ rfl (Nat.le_of_ble_eq_true rfl) ?_
          refine j_eqi (show _ = nI (stk kd bs m (ks k) (decA m s)).2.2.1 from congrArg nI (by show sS m (enc m (stk kd bs m (ks k) (decA m s)).1 (stk kd bs m (ks k) (decA m s)).2.1 (stk kd bs m (ks k) (decA m s)).2.2.1 (stk kd bs m (ks k) (decA m s)).2.2.2) = _; exact sS_enc hox.2.2.1 hox.2.2.2)) ?_
          refine j_iload_n dX0_worth_70 rfl ?_
          refine j_icmp_ne (tgt := 78) dX0_worth_71 (by decide) (fun c71 => ?_) (fun c71 => ?_)
          · skip
            have c71 : ¬ (stk kd bs m (ks k) (decA m s)).2.2.1 = v := fun q => c71 (by rw [q])
            refine j_aload_n dX0_worth_78 rfl ?_
            refine j_iload dX0_worth_79 rfl ?_
            refine j_iload_n dX0_worth_81 rfl ?_
            refine j_iload_n dX0_worth_82 rfl ?_
            refine j_iconst (v := 1) dX0_worth_83 (by decide) ?_
            refine j_isub dX0_worth_84 ?_
            refine j_eqi (show _ = (5 : Int32) by decide) ?_
            refine j_callVi (f_worth5 h60 hK (encA m (stk kd bs m (ks k) (decA m s))) v hv hxl) dX0_worth_85 pmX0_worth q1046 q1048 qs26 (by first | rfl | assumption) rfl rfl rfl ⟨Nat.le_of_ble_eq_true rfl, Nat.le_of_ble_eq_true rfl⟩ ⟨Nat.le_of_ble_eq_true rfl, Nat.le_of_ble_eq_true rfl⟩ rfl (Nat.le_of_ble_eq_true rfl) ?_
            refine j_eqi (show _ = wth (fun k a => stk kd bs m (ks k) a) nk v 5 (stk kd bs m (ks k) (decA m s)) by rw [decA_encA hox]) ?_
            refine j_ineg dX0_worth_88 ?_
            exact kj64 _ (by first | exact (if_pos c71).symm | exact (if_neg c71).symm)
          · skip
            have c71 : (stk kd bs m (ks k) (decA m s)).2.2.1 = v := (nI_eq (by have := hox.2.2.1; omega) (by omega)).mp c71
            refine j_iconst (v := 1) dX0_worth_74 (by decide) ?_
            refine j_goto (tgt := 89) dX0_worth_75 (by decide) ?_
            exact kj64 _ (by first | exact (if_pos c71).symm | exact (if_neg c71).symm)
  · skip
    refine j_iload_n dX0_worth_0 rfl ?_
    refine j_if_eq (tgt := 14) dX0_worth_1 (by decide) (fun c1 => absurd c1 (by decide)) (fun c1 => ?_)
    refine j_aload_n dX0_worth_4 rfl ?_
    refine j_get 0 dX0_worth_5 (by first | rfl | assumption) in_X0 rfl (by decide) q153 rfl ?_
    refine j_getN 2 dX0_worth_8 (by first | rfl | assumption) in_X1 rfl (by decide) (fun _ hs => hs.1 _ qn109) rfl ?_
    refine j_if_ne (tgt := 18) dX0_worth_11 (by decide) (fun c11 => ?_) (fun c11 => ?_)
    · skip
      have c11 : ¬ nk = 0 := fun q => c11 (by rw [q]; rfl)
      refine j_iconst (v := (-1)) dX0_worth_18 (by decide) ?_
      exact kj0 _ (by first | rfl | exact (if_pos c11).symm | exact (if_neg c11).symm)
    · skip
      have c11 : nk = 0 := (nI_eq (by omega) (by decide)).mp c11
      refine j_iconst (v := 0) dX0_worth_14 (by decide) ?_
      refine j_goto (tgt := 19) dX0_worth_15 (by decide) ?_
      exact kj0 _ (by first | rfl | exact (if_pos c11).symm | exact (if_neg c11).symm)
