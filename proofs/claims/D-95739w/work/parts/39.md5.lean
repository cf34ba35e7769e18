set_option maxRecDepth 100000
theorem rn_lM {rn : Nat → Nat} (hrn : rn = rnd) {s : Nat} (hs : s < 2 ^ 31) : ((lN s * 1103515245 + 12345) - (lN s * 1103515245 + 12345) / 2147483648 * 2147483648) = lN (rn s) := by
  rw [← nI_l hs]; exact rn_l hrn hs
theorem lN_ne0 {n : Nat} (h0 : 0 < n) (h : n < 2 ^ 31) : ¬ lN n = 0 := fun q => by
  have := (lN_eq h (by decide)).mp (show lN n = lN 0 from q)
  omega
/-- draws and strokes on: the state, what is spent, the seed -/
def dstA (rn : Nat → Nat) (stp : Nat → A4 → A4) (co : Nat → Nat) (nk : Nat) : Nat → A4 × Nat × Nat → A4 × Nat × Nat
  | 0, z => z
  | n + 1, z => dstA rn stp co nk n (stp (rn z.2.2 / 65536 % nk) z.1, z.2.1 + co (rn z.2.2 / 65536 % nk), rn z.2.2)
def mdFz (F : Nat → Nat) (sp sd : Nat) : Nat → Nat := va_up (va_up F 26 sd) 25 sp
theorem mdFz_2 {F : Nat → Nat} {a b c d : Nat} : va_up (va_up (mdFz F a b) 26 d) 25 c = mdFz F c d := by
  funext k
  unfold mdFz va_up
  by_cases h1 : k = 25
  · rw [if_pos h1, if_pos h1]
  · by_cases h2 : k = 26
    · simp only [if_neg h1, if_pos h2]
    · simp only [if_neg h1, if_neg h2]
theorem mdFz_1 {F : Nat → Nat} : mdFz F (F 25) (F 26) = F := by
  funext k
  unfold mdFz va_up
  by_cases h1 : k = 25
  · rw [if_pos h1, h1]
  · by_cases h2 : k = 26
    · rw [if_neg h1, if_pos h2, h2]
    · rw [if_neg h1, if_neg h2]
set_option maxHeartbeats 4000000 in
theorem m_drifto {l : Launch} {D : va_G} {dT : Nat → ClassId} {H0 : Heap} {r : Nat → Nat} {nx : Nat} {g : j_H} {kI : Int32} {bs fg m nk w x s t : Nat} {F : Nat → Nat} {tk : Int64} {V : Nat → Nat → Int32} (v : Int32) (hv : ¬ (1 ≤ v ∧ v ≤ 999)) : MC (gG l D dT H0) yX3_drift cX3_drift 4 (some .int) 4 0 0 [.ref (r 100), .int v] r (mdS r dT g kI bs fg m nk w x s t F tk V) nx (jq_i (-1000000002) r (mdS r dT g kI bs fg m nk w x s t F tk V) nx) := by
  refine MC.ofJ [some (.ref (r 100)), some (.int v), none, none] rfl (Nat.le_of_ble_eq_true rfl) (by decide) ?_
  refine j_iload_n dX3_drift_0 rfl ?_
  refine j_iconst (v := 1) dX3_drift_1 (by decide) ?_
  refine j_sipush (v := 999) dX3_drift_2 (by decide) ?_
  refine j_callSi (c_X3_in _ _ _) dX3_drift_5 pmX3_in q1228 q1229 rfl ⟨Nat.le_of_ble_eq_true rfl, Nat.le_of_ble_eq_true rfl⟩ ⟨Nat.le_of_ble_eq_true rfl, Nat.le_of_ble_eq_true rfl⟩ rfl (Nat.le_of_ble_eq_true rfl) ?_
  refine j_ifb_ne (tgt := 14) dX3_drift_8 (by decide) (fun c8 => absurd c8 hv) (fun c8 => ?_)
  refine j_ldc dX3_drift_11 q1231 ?_
  refine j_iret dX3_drift_13 rfl rfl (Nat.le_refl _) (Nat.le_refl _) ?_
  exact ⟨rfl, rfl, rfl, rfl⟩
set_option maxHeartbeats 4000000 in
theorem m_drift0 {l : Launch} {D : va_G} {dT : Nat → ClassId} {H0 : Heap} {r : Nat → Nat} {nx : Nat} {g : j_H} {kI : Int32} {bs fg m nk w x s t : Nat} {F : Nat → Nat} {tk : Int64} {V : Nat → Nat → Int32} (v : Int32) (hv : 1 ≤ v ∧ v ≤ 999) (hn : nk = 0) : MC (gG l D dT H0) yX3_drift cX3_drift 4 (some .int) 4 0 0 [.ref (r 100), .int v] r (mdS r dT g kI bs fg m nk w x s t F tk V) nx (jq_i (-1000000003) r (mdS r dT g kI bs fg m nk w x s t F tk V) nx) := by
  refine MC.ofJ [some (.ref (r 100)), some (.int v), none, none] rfl (Nat.le_of_ble_eq_true rfl) (by decide) ?_
  refine j_iload_n dX3_drift_0 rfl ?_
  refine j_iconst (v := 1) dX3_drift_1 (by decide) ?_
  refine j_sipush (v := 999) dX3_drift_2 (by decide) ?_
  refine j_callSi (c_X3_in _ _ _) dX3_drift_5 pmX3_in q1228 q1229 rfl ⟨Nat.le_of_ble_eq_true rfl, Nat.le_of_ble_eq_true rfl⟩ ⟨Nat.le_of_ble_eq_true rfl, Nat.le_of_ble_eq_true rfl⟩ rfl (Nat.le_of_ble_eq_true rfl) ?_
  refine j_ifb_ne (tgt := 14) dX3_drift_8 (by decide) (fun c8 => ?_) (fun c8 => absurd hv c8)
  refine j_aload_n dX3_drift_14 rfl ?_
  refine j_get 4 dX3_drift_15 (by first | rfl | assumption) in_X3 rfl (by decide) q1103 rfl ?_
  refine j_if_ne (tgt := 25) dX3_drift_18 (by decide) (fun c18 => absurd (by rw [hn]; rfl) c18) (fun c18 => ?_)
  refine j_ldcw dX3_drift_21 q1392 ?_
  refine j_iret dX3_drift_24 rfl rfl (Nat.le_refl _) (Nat.le_refl _) ?_
  exact ⟨rfl, rfl, rfl, rfl⟩
set_option maxHeartbeats 4000000 in
theorem m_drift1 {l : Launch} {D : va_G} {dT : Nat → ClassId} {H0 : Heap} {r : Nat → Nat} {nx : Nat} {g : j_H} {kd bs fg m nk : Nat} {a : A4} {F : Nat → Nat} {tk : Int64} {V : Nat → Nat → Int32} (hD : okD kd bs m) (ha : okA m a) {ks : Nat → KY} (hks : mdKs (V 101) bs m nk ks) (hn8 : nk ≤ 8) {rn : Nat → Nat} (hrn : rn = rnd) (hnk : 0 < nk) (n : Nat) (hn : 1 ≤ n ∧ n ≤ 999) (hsd : F 26 < 2 ^ 31) : MC (gG l D dT H0) yX3_drift cX3_drift 4 (some .int) 4 0 0 [.ref (r 100), .int (nI n)] r (mdS r dT g (nI kd) bs fg m nk a.1 a.2.1 a.2.2.1 a.2.2.2 F tk V) nx (jq_i (nI (dstA rn (fun k a => stk kd bs m (ks k) a) (fun k => (ks k).2.1) nk n (a, F 25, F 26)).1.2.2.1) r (mdS r dT g (nI kd) bs fg m nk (dstA rn (fun k a => stk kd bs m (ks k) a) (fun k => (ks k).2.1) nk n (a, F 25, F 26)).1.1 (dstA rn (fun k a => stk kd bs m (ks k) a) (fun k => (ks k).2.1) nk n (a, F 25, F 26)).1.2.1 (dstA rn (fun k a => stk kd bs m (ks k) a) (fun k => (ks k).2.1) nk n (a, F 25, F 26)).1.2.2.1 (dstA rn (fun k a => stk kd bs m (ks k) a) (fun k => (ks k).2.1) nk n (a, F 25, F 26)).1.2.2.2 (mdFz F (dstA rn (fun k a => stk kd bs m (ks k) a) (fun k => (ks k).2.1) nk n (a, F 25, F 26)).2.1 (dstA rn (fun k a => stk kd bs m (ks k) a) (fun k => (ks k).2.1) nk n (a, F 25, F 26)).2.2) tk V) nx) := by
  refine MC.ofJ [some (.ref (r 100)), some (.int (nI n)), none, none] rfl (Nat.le_of_ble_eq_true rfl) (by decide) ?_
  refine j_iload_n dX3_drift_0 rfl ?_
  refine j_iconst (v := 1) dX3_drift_1 (by decide) ?_
  refine j_sipush (v := 999) dX3_drift_2 (by decide) ?_
  refine j_callSi (c_X3_in _ _ _) dX3_drift_5 pmX3_in q1228 q1229 rfl ⟨Nat.le_of_ble_eq_true rfl, Nat.le_of_ble_eq_true rfl⟩ ⟨Nat.le_of_ble_eq_true rfl, Nat.le_of_ble_eq_true rfl⟩ rfl (Nat.le_of_ble_eq_true rfl) ?_
  refine j_ifb_ne (tgt := 14) dX3_drift_8 (by decide) (fun c8 => ?_) (fun c8 => absurd ⟨nI_le (a := 1) hn.1 (by omega), nI_le (b := 999) hn.2 (by decide)⟩ c8)
  refine j_aload_n dX3_drift_14 rfl ?_
  refine j_get 4 dX3_drift_15 (by first | rfl | assumption) in_X3 rfl (by decide) q1103 rfl ?_
  refine j_if_ne (tgt := 25) dX3_drift_18 (by decide) (fun c18 => ?_) (fun c18 => absurd c18 (nI_ne hnk (by omega)))
  refine j_iconst (v := 0) dX3_drift_25 (by decide) ?_
  refine j_istore_n dX3_drift_26 (by decide) rfl ?_
  refine j_re rfl rfl (h' := (mdS r dT g (nI kd) bs fg m nk a.1 a.2.1 a.2.2.1 a.2.2.2 (mdFz F (F 25) (F 26)) tk V)) (by rw [mdFz_1]) ?_
  refine j_less (L' := [some (.ref (r 100)), some (.int (nI n)), some (.int (nI 0)), none]) ⟨Or.inr rfl, Or.inr rfl, Or.inr rfl, Or.inl rfl, trivial⟩ ?_
  refine j_lp5 (fun (i j : Nat) (b : A4) (sp sd : Nat) => (mdS r dT g (nI kd) bs fg m nk b.1 b.2.1 b.2.2.1 b.2.2.2 (mdFz F sp sd) tk V)) (fun i _ _ _ _ => [some (.ref (r 100)), some (.int (nI n)), some (.int (nI i)), none]) (fun i j b sp sd => i + j = n ∧ okA m b ∧ sd < 2 ^ 31 ∧ dstA rn (fun k a => stk kd bs m (ks k) a) (fun k => (ks k).2.1) nk j (b, sp, sd) = dstA rn (fun k a => stk kd bs m (ks k) a) (fun k => (ks k).2.1) nk n (a, F 25, F 26)) (fun _ j _ _ _ => j) ?_ 0 n a (F 25) (F 26) ⟨by omega, ha, hsd, rfl⟩
  intro i j b sp sd ⟨hij, hb, hsd1, hz⟩ ih
  obtain ⟨kk, hkk⟩ : ∃ kk, kk = rn sd / 65536 % nk := ⟨_, rfl⟩
  have hkl : kk < nk := by rw [hkk]; exact Nat.mod_lt _ hnk
  have hrl := rn_lt hrn sd
  refine j_iload_n dX3_drift_27 rfl ?_
  refine j_iload_n dX3_drift_28 rfl ?_
  refine j_icmp_ge (tgt := 98) dX3_drift_29 (by decide) (fun c29 => ?_) (fun c29 => ?_)
  · skip
    have hz0 : j = 0 := by
      have := (nI_leI (by omega) (by omega)).mp c29
      omega
    subst hz0
    rw [← hz]
    refine j_aload_n dX3_drift_98 rfl ?_
    refine j_get 21 dX3_drift_99 (by first | rfl | assumption) in_X3 rfl (by decide) q1120 rfl ?_
    refine j_iret dX3_drift_102 rfl rfl (Nat.le_refl _) (Nat.le_refl _) ?_
    exact jr_i rfl
  · skip
    have hin : i < n := Nat.lt_of_not_le (fun q => c29 (nI_le q (by omega)))
    obtain ⟨j, rfl⟩ : ∃ j', j = j' + 1 := ⟨j - 1, by omega⟩
    refine j_aload_n dX3_drift_32 rfl ?_
    refine j_aload_n dX3_drift_33 rfl ?_
    refine j_get 26 dX3_drift_34 (by first | rfl | assumption) in_X3 rfl (by decide) q1125 rfl ?_
    refine j_ldc2 dX3_drift_37 q1488 ?_
    refine j_lmul dX3_drift_40 ?_
    refine j_ldc2 dX3_drift_41 q1489 ?_
    refine j_ladd dX3_drift_44 ?_
    refine j_ldc2 dX3_drift_45 q1490 ?_
    refine j_lrem dX3_drift_48 (by decide) ?_
    refine j_eql (rn_lM hrn hsd1) ?_
    refine j_put 26 dX3_drift_49 (by first | rfl | assumption) in_X3 tyX3_ok nmX3 rfl (by decide) q1125 rfl rfl rfl (by first | decide | simp) ?_
    refine j_mdF (q := 26) (v := (rn sd)) (by decide) rfl ?_
    refine j_aload_n dX3_drift_52 rfl ?_
    refine j_get 26 dX3_drift_53 (by first | rfl | assumption) in_X3 rfl (by decide) q1125 rfl ?_
    refine j_ldc2 dX3_drift_56 q1491 ?_
    refine j_ldiv dX3_drift_59 (by decide) ?_
    refine j_eql (show _ = lN (rn sd / 65536) from pk_lDiv (a := rn sd) (b := 65536) (by omega) (by decide) (by decide)) ?_
    refine j_aload_n dX3_drift_60 rfl ?_
    refine j_get 4 dX3_drift_61 (by first | rfl | assumption) in_X3 rfl (by decide) q1103 rfl ?_
    refine j_i2l dX3_drift_64 ?_
    refine j_eql (nI_l (by omega)) ?_
    refine j_lrem dX3_drift_65 (lN_ne0 hnk (by omega)) ?_
    refine j_eql (show _ = lN kk by rw [hkk]; exact pk_lRem (by omega) hnk (by omega)) ?_
    refine j_l2i dX3_drift_66 ?_
    refine j_eqi (lN_i _) ?_
    refine j_istore_n dX3_drift_67 (by decide) rfl ?_
    refine j_aload_n dX3_drift_68 rfl ?_
    refine j_iload_n dX3_drift_69 rfl ?_
    refine j_callVv (m_doStroke hD hb kk (by omega) (ks kk) (hks _ hkl).2 (hks _ hkl).1.w) dX3_drift_70 pmX3_doStroke q1312 q1314 qs37 (by first | rfl | assumption) rfl rfl rfl ⟨Nat.le_of_ble_eq_true rfl, Nat.le_of_ble_eq_true rfl⟩ ⟨Nat.le_of_ble_eq_true rfl, Nat.le_of_ble_eq_true rfl⟩ rfl (Nat.le_of_ble_eq_true rfl) ?_
    refine j_aload_n dX3_drift_73 rfl ?_
    refine j_dup dX3_drift_74 rfl ?_
    refine j_get 25 dX3_drift_75 (by first | rfl | assumption) in_X3 rfl (by decide) q1124 rfl ?_
    refine j_aload_n dX3_drift_78 rfl ?_
    refine j_get 5 dX3_drift_79 (by first | rfl | assumption) in_X3 rfl (by decide) q1104 rfl ?_
    refine j_iconst (v := 4) dX3_drift_82 (by decide) ?_
    refine j_iload_n dX3_drift_83 rfl ?_
    refine j_imul dX3_drift_84 ?_
    refine j_iconst (v := 1) dX3_drift_85 (by decide) ?_
    refine j_iadd dX3_drift_86 ?_
    refine j_iald 0 (4 * kk + 1) dX3_drift_87 (by first | rfl | assumption) rfl (jx1 kk) (by show _ < 36; omega) (by decide) ?_
    refine j_eqi (show _ = nI (ks kk).2.1 from (hks _ hkl).1.2.1) ?_
    refine j_iadd dX3_drift_88 ?_
    refine j_eqi (show _ = nI (sp + (ks kk).2.1) from nI_add _ _) ?_
    refine j_put 25 dX3_drift_89 (by first | rfl | assumption) in_X3 tyX3_ok nmX3 rfl (by decide) q1124 rfl rfl rfl (by first | decide | simp) ?_
    refine j_mdF (q := 25) (v := (sp + (ks kk).2.1)) (by decide) rfl ?_
    refine j_iinc dX3_drift_92 rfl (by decide) rfl ?_
    refine j_goto (tgt := 27) dX3_drift_95 (by decide) ?_
    refine j_less (L' := [some (.ref (r 100)), some (.int (nI n)), some (.int (nI (i + 1))), none]) ⟨Or.inr rfl, Or.inr rfl, Or.inr (by rw [← nI_inc]), Or.inl rfl, trivial⟩ ?_
    rw [mdFz_2]
    exact ih (i + 1) j (stk kd bs m (ks kk) b) _ _ ⟨by omega, stk_ok hD (hks _ hkl).2 hb, by omega, by rw [← hz, hkk]; rfl⟩ (by omega)
