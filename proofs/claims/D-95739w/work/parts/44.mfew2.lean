set_option maxRecDepth 100000
/-- the least of those at which f is greatest -/
def isFar (f : Nat → Int32) (m b : Nat) : Prop := b < m ∧ ∀ v, v < m → f v < f b ∨ (f v = f b ∧ b ≤ v)
theorem isFar.eq {f : Nat → Int32} {m b c : Nat} (hb : isFar f m b) (hc : isFar f m c) : b = c := by
  have h1 := hb.2 c hc.1
  have h2 := hc.2 b hb.1
  rcases h1 with h1 | ⟨h1, h3⟩ <;> rcases h2 with h2 | ⟨h2, h4⟩
  · exact absurd h2 (Int32.lt_asymm h1)
  · rw [h2] at h1; exact absurd h1 (by rw [Int32.lt_iff_toInt_lt]; omega)
  · rw [h1] at h2; exact absurd h2 (by rw [Int32.lt_iff_toInt_lt]; omega)
  · omega
theorem frG_far {f : Nat → Int32} {m : Nat} : ∀ n v b, n + v = m → b < m → (∀ u, u < v → f u < f b ∨ (f u = f b ∧ b ≤ u)) → isFar f m (frG f n v b)
  | 0, v, b, h, hb, hu => ⟨hb, fun u hu2 => hu u (by omega)⟩
  | n + 1, v, b, h, hb, hu => by
    rw [frG]
    refine frG_far n (v + 1) _ (by omega) (by split <;> omega) (fun u hu2 => ?_)
    by_cases hc : f b < f v ∨ (f v = f b ∧ v < b)
    · rw [if_pos hc]
      by_cases huv : u = v
      · subst huv; exact Or.inr ⟨rfl, Nat.le_refl _⟩
      · rcases hu u (by omega) with q | ⟨q1, q2⟩
        · rcases hc with c1 | ⟨c1, c2⟩
          · exact Or.inl (Int32.lt_trans q c1)
          · exact Or.inl (c1 ▸ q)
        · rcases hc with c1 | ⟨c1, c2⟩
          · exact Or.inl (q1 ▸ c1)
          · omega
    · rw [if_neg hc]
      by_cases huv : u = v
      · subst huv
        have h1 : ¬ f b < f u := fun q => hc (Or.inl q)
        by_cases h2 : f u < f b
        · exact Or.inl h2
        · have h3 : f u = f b := Int32.le_antisymm (Int32.not_lt.mp h1) (Int32.not_lt.mp h2)
          exact Or.inr ⟨h3, Nat.le_of_not_lt (fun q => hc (Or.inr ⟨h3, q⟩))⟩
      · exact hu u (by omega)
theorem frG_is {f : Nat → Int32} {m b : Nat} (hb : b < m) : isFar f m (frG f m 0 b) := frG_far m 0 b (by omega) hb (fun u hu => absurd hu (Nat.not_lt_zero _))
set_option maxHeartbeats 4000000 in
theorem m_farthest1 {l : Launch} {D : va_G} {dT : Nat → ClassId} {H0 : Heap} {r : Nat → Nat} {nx : Nat} {g : j_H} {kd bs fg m nk : Nat} {a : A4} {F : Nat → Nat} {tk : Int64} {V : Nat → Nat → Int32} (hD : okD kd bs m) (ha : okA m a) {ks : Nat → KY} (hks : mdKs (V 101) bs m nk ks) (hn8 : nk ≤ 8) (u : Int32) (hu : 0 ≤ u ∧ u ≤ 1) : MC (gG l D dT H0) yX3_farthest cX3_farthest 4 (some .int) 6 0 0 [.ref (r 100), .int u] r (mdS r dT g (nI kd) bs fg m nk a.1 a.2.1 a.2.2.1 a.2.2.2 F tk V) nx (jq_m (if u = 0 then nI (frG (bN (bAll (fun k a => stk kd bs m (ks k) a) nk (8 * m * m) a)) m 0 a.2.2.1) else bN (bAll (fun k a => stk kd bs m (ks k) a) nk (8 * m * m) a) (frG (bN (bAll (fun k a => stk kd bs m (ks k) a) nk (8 * m * m) a)) m 0 a.2.2.1)) r dT g (nI kd) bs fg m nk a F tk V nx) := by
  have hm := hD.pos
  have hm2 := hD.le
  have hm3 : 2 ≤ m := by have := hD.2.1; have := hD.2.2.2.1; omega
  have hkd := hD.1
  refine MC.ofJ [some (.ref (r 100)), some (.int u), none, none] rfl (Nat.le_of_ble_eq_true rfl) (by decide) ?_
  refine j_iload_n dX3_farthest_0 rfl ?_
  refine j_iconst (v := 0) dX3_farthest_1 (by decide) ?_
  refine j_iconst (v := 1) dX3_farthest_2 (by decide) ?_
  refine j_callSi (c_X3_in _ _ _) dX3_farthest_3 pmX3_in q1228 q1229 rfl ⟨Nat.le_of_ble_eq_true rfl, Nat.le_of_ble_eq_true rfl⟩ ⟨Nat.le_of_ble_eq_true rfl, Nat.le_of_ble_eq_true rfl⟩ rfl (Nat.le_of_ble_eq_true rfl) ?_
  refine j_ifb_ne (tgt := 12) dX3_farthest_6 (by decide) (fun c6 => ?_) (fun c6 => absurd hu c6)
  refine j_aload_n dX3_farthest_12 rfl ?_
  refine j_get 3 dX3_farthest_13 (by first | rfl | assumption) in_X3 rfl (by decide) q1102 rfl ?_
  refine j_if_ne (tgt := 23) dX3_farthest_16 (by decide) (fun c16 => ?_) (fun c16 => absurd c16 (nI_ne hm (by omega)))
  refine j_aload_n dX3_farthest_23 rfl ?_
  refine j_aload_n dX3_farthest_24 rfl ?_
  refine j_get 4 dX3_farthest_25 (by first | rfl | assumption) in_X3 rfl (by decide) q1103 rfl ?_
  refine j_callV (m_layFewest hD ha hks.w (by omega)) q_lay.isR dX3_farthest_28 pmX3_layFewest q1340 q1342 qs42 (by first | rfl | assumption) rfl rfl rfl ⟨Nat.le_of_ble_eq_true rfl, Nat.le_of_ble_eq_true rfl⟩ ⟨Nat.le_of_ble_eq_true rfl, Nat.le_of_ble_eq_true rfl⟩ rfl (Nat.le_of_ble_eq_true rfl) ?_
  rintro v9 r h9 nx ⟨e9, rfl, rfl, fr, ln, by', fw, fs, rfl, hR, hO⟩
  cases e9
  generalize hLF : (bAll (fun k a => stk kd bs m (ks k) a) nk (8 * m * m) a) = LF at hR hO ⊢
  refine j_aload_n dX3_farthest_31 rfl ?_
  refine j_get 21 dX3_farthest_32 (by first | rfl | assumption) in_X3 rfl (by decide) q1120 rfl ?_
  refine j_istore_n dX3_farthest_35 (by decide) rfl ?_
  refine j_aload_n dX3_farthest_36 rfl ?_
  refine j_get 3 dX3_farthest_37 (by first | rfl | assumption) in_X3 rfl (by decide) q1102 rfl ?_
  refine j_iconst (v := 1) dX3_farthest_40 (by decide) ?_
  refine j_isub dX3_farthest_41 ?_
  refine j_istore_n dX3_farthest_42 (by decide) rfl ?_
  refine j_less (L' := [some (.ref (r 100)), some (.int u), some (.int (nI a.2.2.1)), some (.int (nI m - 1))]) ⟨Or.inr rfl, Or.inr rfl, Or.inr rfl, Or.inr rfl, trivial⟩ ?_
  refine j_lp2 (fun (v b : Nat) => (mdS r dT g (nI kd) bs fg m nk a.1 a.2.1 a.2.2.1 a.2.2.2 F tk (vo V [(109, fr), (110, ln), (111, by'), (113, fw), (114, fs)]))) (fun v b => [some (.ref (r 100)), some (.int u), some (.int (nI b)), some (.int (nI v - 1))]) (fun v b => v ≤ m ∧ b < m ∧ ∀ z, v ≤ z → z < m → bN LF z < bN LF b ∨ (bN LF z = bN LF b ∧ b ≤ z)) (fun v _ => v) ?_ m a.2.2.1 ⟨Nat.le_refl _, ha.2.2.1, fun z h1 h2 => absurd h2 (by omega)⟩
  intro v b ⟨hv, hb, hfar⟩ ih
  refine j_iload_n dX3_farthest_43 rfl ?_
  refine j_if_lt (tgt := 74) dX3_farthest_44 (by decide) (fun c44 => ?_) (fun c44 => ?_)
  · skip
    have hv0 : v = 0 := by
      rcases Nat.eq_zero_or_pos v with q | q
      · exact q
      · rw [show (1 : Int32) = nI 1 from rfl, nI_sub q] at c44
        exact absurd c44 (Int32.not_lt.mpr (nI_pos' (by omega)))
    subst hv0
    have hbe : frG (bN LF) m 0 a.2.2.1 = b := (frG_is ha.2.2.1).eq ⟨hb, fun z hz => hfar z (Nat.zero_le _) hz⟩
    rw [hbe]
    refine j_iload_n dX3_farthest_74 rfl ?_
    refine j_if_ne (tgt := 82) dX3_farthest_75 (by decide) (fun c75 => ?_) (fun c75 => ?_)
    · skip
      refine j_aload_n dX3_farthest_82 rfl ?_
      refine j_get 38 dX3_farthest_83 (by first | rfl | assumption) in_X3 rfl (by decide) q1137 rfl ?_
      refine j_iload_n dX3_farthest_86 rfl ?_
      refine j_iald 0 b dX3_farthest_87 (by first | rfl | assumption) rfl rfl (by show b < 100; omega) (by decide) ?_
      refine j_eqi (hR.few hb) ?_
      refine j_iret dX3_farthest_88 rfl rfl (Nat.le_refl _) (Nat.le_refl _) ?_
      refine jm_i ?_ vo5_ms
      exact (if_neg c75).symm
    · skip
      refine j_iload_n dX3_farthest_78 rfl ?_
      refine j_goto (tgt := 88) dX3_farthest_79 (by decide) ?_
      refine j_iret dX3_farthest_88 rfl rfl (Nat.le_refl _) (Nat.le_refl _) ?_
      refine jm_i ?_ vo5_ms
      exact (if_pos c75).symm
  · skip
    have hv0 : 0 < v := by
      rcases Nat.eq_zero_or_pos v with q | q
      · rw [q] at c44; exact absurd (by decide) c44
      · exact q
    obtain ⟨v, rfl⟩ : ∃ v', v = v' + 1 := ⟨v - 1, by omega⟩
    have hve : nI (v + 1) - 1 = nI v := by rw [show (1 : Int32) = nI 1 from rfl, nI_sub (by omega)]; rfl
    rw [hve]
    refine j_join (tgt := 67) (fun z => z = nI (if bN LF v < bN LF b then b else v)) (fun v47 hv47 => ?_) (fun kj47 => ?_)
    · skip
      subst hv47
      refine j_istore_n dX3_farthest_67 (by decide) rfl ?_
      refine j_iinc dX3_farthest_68 rfl (by decide) rfl ?_
      refine j_goto (tgt := 43) dX3_farthest_71 (by decide) ?_
      refine j_less (L' := [some (.ref (r 100)), some (.int u), some (.int (nI (if bN LF v < bN LF b then b else v))), some (.int (nI v - 1))]) ⟨Or.inr rfl, Or.inr rfl, Or.inr rfl, Or.inr (by rw [← i32_dec]), trivial⟩ ?_
      refine ih v _ ⟨by omega, by split <;> omega, fun z h1 h2 => ?_⟩ (by omega)
      by_cases hc : bN LF v < bN LF b
      · rw [if_pos hc]
        by_cases hzv : z = v
        · subst hzv; exact Or.inl hc
        · exact hfar z (by omega) h2
      · rw [if_neg hc]
        by_cases hzv : z = v
        · subst hzv; exact Or.inr ⟨rfl, Nat.le_refl _⟩
        · rcases hfar z (by omega) h2 with q | ⟨q, q2⟩
          · by_cases h3 : bN LF b < bN LF v
            · exact Or.inl (Int32.lt_trans q h3)
            · have h4 : bN LF v = bN LF b := Int32.le_antisymm (Int32.not_lt.mp h3) (Int32.not_lt.mp hc)
              rw [h4]; exact Or.inl q
          · by_cases h3 : bN LF b < bN LF v
            · rw [q]; exact Or.inl h3
            · have h4 : bN LF v = bN LF b := Int32.le_antisymm (Int32.not_lt.mp h3) (Int32.not_lt.mp hc)
              exact Or.inr ⟨by rw [q, h4], h1⟩
    · skip
      refine j_aload_n dX3_farthest_47 rfl ?_
      refine j_get 38 dX3_farthest_48 (by first | rfl | assumption) in_X3 rfl (by decide) q1137 rfl ?_
      refine j_iload_n dX3_farthest_51 rfl ?_
      refine j_iald 0 v dX3_farthest_52 (by first | rfl | assumption) rfl rfl (by show v < 100; omega) (by decide) ?_
      refine j_eqi (hR.few (by omega)) ?_
      refine j_aload_n dX3_farthest_53 rfl ?_
      refine j_get 38 dX3_farthest_54 (by first | rfl | assumption) in_X3 rfl (by decide) q1137 rfl ?_
      refine j_iload_n dX3_farthest_57 rfl ?_
      refine j_iald 0 b dX3_farthest_58 (by first | rfl | assumption) rfl rfl (by show b < 100; omega) (by decide) ?_
      refine j_eqi (hR.few hb) ?_
      refine j_icmp_lt (tgt := 66) dX3_farthest_59 (by decide) (fun c59 => ?_) (fun c59 => ?_)
      · skip
        have hj : nI b = nI (if bN LF v < bN LF b then b else v) := by rw [if_pos c59]
        refine j_iload_n dX3_farthest_66 rfl ?_
        exact kj47 _ hj
      · skip
        have hj : nI v = nI (if bN LF v < bN LF b then b else v) := by rw [if_neg c59]
        refine j_iload_n dX3_farthest_62 rfl ?_
        refine j_goto (tgt := 67) dX3_farthest_63 (by decide) ?_
        exact kj47 _ hj
theorem smT_lt {m K : Nat} {L : List BE} {tg : Nat → Nat} (hm : m ≤ 100) (hO : bOK m K L) : ∀ n, n ≤ 6 → ∃ s, smT (bN L) tg n = nI s ∧ s ≤ n * 80000
  | 0, _ => ⟨0, rfl, Nat.le_refl _⟩
  | n + 1, h => by
    obtain ⟨s, h1, h2⟩ := smT_lt hm hO (tg := tg) n (by omega)
    rw [smT, h1]
    have hmm := mm_le hm
    cases hq : bFst L (tg n) with
    | none =>
      rw [bN_none hq, if_pos rfl]
      exact ⟨s + 99, nI_add s 99, by omega⟩
    | some e =>
      have hd := hO.dist (bFst_mem hq).1
      rw [bN_eq hq, if_neg (nI_m1 (by omega)), nI_add]
      exact ⟨s + e.2.1, rfl, by omega⟩
theorem smT_l9 {m K : Nat} {L : List BE} {tg : Nat → Nat} (hm : m ≤ 100) (hO : bOK m K L) {n : Nat} (hn : n ≤ 6) : smT (bN L) tg n < 999999 := by
  obtain ⟨s, h1, h2⟩ := smT_lt hm hO (tg := tg) n hn
  rw [h1]
  exact nI_lt (b := 999999) (by omega) (by decide)
def q_all (v : Int32) (Q : j_Q) : j_Q := fun o r' h' nx' => Q o r' h' nx' ∧ v < 999999
theorem q_all.isR {v : Int32} {Q : j_Q} (h : j_isR Q) : j_isR (q_all v Q) := fun _ _ _ _ hq => h _ _ _ _ hq.1
set_option maxHeartbeats 4000000 in
theorem m_allFewest {l : Launch} {D : va_G} {dT : Nat → ClassId} {H0 : Heap} {r : Nat → Nat} {nx : Nat} {g : j_H} {kd bs fg m nk : Nat} {a : A4} {F : Nat → Nat} {tk : Int64} {V : Nat → Nat → Int32} (hD : okD kd bs m) (ha : okA m a) {K : Nat} {ks : Nat → KY} (hks : mdKw (V 101) bs m K ks) (hK9 : K ≤ 9) (tg : Nat → Nat) (htg : ∀ i, i < F 27 → V 104 i = nI (tg i) ∧ tg i < m) (hn6 : F 27 ≤ 6) : MC (gG l D dT H0) yX3_allFewest cX3_allFewest 4 (some .int) 6 0 0 [.ref (r 100), .int (nI K)] r (mdS r dT g (nI kd) bs fg m nk a.1 a.2.1 a.2.2.1 a.2.2.2 F tk V) nx (q_all (smT (bN (bAll (fun k a => stk kd bs m (ks k) a) K (8 * m * m) a)) tg (F 27)) (jq_m (smT (bN (bAll (fun k a => stk kd bs m (ks k) a) K (8 * m * m) a)) tg (F 27)) r dT g (nI kd) bs fg m nk a F tk V nx)) := by
  have hm := hD.pos
  have hm2 := hD.le
  have hm3 : 2 ≤ m := by have := hD.2.1; have := hD.2.2.2.1; omega
  have hkd := hD.1
  refine MC.ofJ [some (.ref (r 100)), some (.int (nI K)), none, none] rfl (Nat.le_of_ble_eq_true rfl) (by decide) ?_
  refine j_aload_n dX3_allFewest_0 rfl ?_
  refine j_iload_n dX3_allFewest_1 rfl ?_
  refine j_callV (m_layFewest hD ha hks hK9) q_lay.isR dX3_allFewest_2 pmX3_layFewest q1340 q1342 qs42 (by first | rfl | assumption) rfl rfl rfl ⟨Nat.le_of_ble_eq_true rfl, Nat.le_of_ble_eq_true rfl⟩ ⟨Nat.le_of_ble_eq_true rfl, Nat.le_of_ble_eq_true rfl⟩ rfl (Nat.le_of_ble_eq_true rfl) ?_
  rintro v9 r h9 nx ⟨e9, rfl, rfl, fr, ln, by', fw, fs, rfl, hR, hO⟩
  cases e9
  generalize hLF : (bAll (fun k a => stk kd bs m (ks k) a) K (8 * m * m) a) = LF at hR hO ⊢
  refine j_iconst (v := 0) dX3_allFewest_5 (by decide) ?_
  refine j_istore_n dX3_allFewest_6 (by decide) rfl ?_
  refine j_iconst (v := 0) dX3_allFewest_7 (by decide) ?_
  refine j_istore_n dX3_allFewest_8 (by decide) rfl ?_
  refine j_less (L' := [some (.ref (r 100)), some (.int (nI K)), some (.int (smT (bN LF) tg 0)), some (.int (nI 0))]) ⟨Or.inr rfl, Or.inr rfl, Or.inr rfl, Or.inr rfl, trivial⟩ ?_
  refine j_lp1 (fun (i : Nat) => (mdS r dT g (nI kd) bs fg m nk a.1 a.2.1 a.2.2.1 a.2.2.2 F tk (vo V [(109, fr), (110, ln), (111, by'), (113, fw), (114, fs)]))) (fun i => [some (.ref (r 100)), some (.int (nI K)), some (.int (smT (bN LF) tg i)), some (.int (nI i))]) (fun i => i ≤ F 27) (fun i => F 27 - i) ?_ 0 (Nat.zero_le _)
  intro i hi1 ih
  refine j_iload_n dX3_allFewest_9 rfl ?_
  refine j_aload_n dX3_allFewest_10 rfl ?_
  refine j_get 27 dX3_allFewest_11 (by first | rfl | assumption) in_X3 rfl (by decide) q1126 rfl ?_
  refine j_icmp_ge (tgt := 57) dX3_allFewest_14 (by decide) (fun c14 => ?_) (fun c14 => ?_)
  · skip
    have hvm : i = F 27 := by
      have := (nI_leI (by omega) (by omega)).mp c14
      omega
    subst hvm
    refine j_iload_n dX3_allFewest_57 rfl ?_
    refine j_iret dX3_allFewest_58 rfl rfl (Nat.le_refl _) (Nat.le_refl _) ?_
    exact ⟨jm_i rfl vo5_ms, smT_l9 hm2 hO hn6⟩
  · skip
    have hvm : i < F 27 := Nat.lt_of_not_le (fun q => c14 (nI_le q (by omega)))
    refine j_iload_n dX3_allFewest_17 rfl ?_
    refine j_join (tgt := 49) (fun x => x = if bN LF (tg i) = -1 then 99 else bN LF (tg i)) (fun v18 hv18 => ?_) (fun kj18 => ?_)
    · skip
      subst hv18
      refine j_iadd dX3_allFewest_49 ?_
      refine j_istore_n dX3_allFewest_50 (by decide) rfl ?_
      refine j_iinc dX3_allFewest_51 rfl (by decide) rfl ?_
      refine j_goto (tgt := 9) dX3_allFewest_54 (by decide) ?_
      refine j_less (L' := [some (.ref (r 100)), some (.int (nI K)), some (.int (smT (bN LF) tg (i + 1))), some (.int (nI (i + 1)))]) ⟨Or.inr rfl, Or.inr rfl, Or.inr rfl, Or.inr (by rw [← nI_inc]), trivial⟩ ?_
      exact ih (i + 1) (by omega) (by omega)
    · skip
      refine j_aload_n dX3_allFewest_18 rfl ?_
      refine j_get 38 dX3_allFewest_19 (by first | rfl | assumption) in_X3 rfl (by decide) q1137 rfl ?_
      refine j_aload_n dX3_allFewest_22 rfl ?_
      refine j_get 28 dX3_allFewest_23 (by first | rfl | assumption) in_X3 rfl (by decide) q1127 rfl ?_
      refine j_iload_n dX3_allFewest_26 rfl ?_
      refine j_iald 0 i dX3_allFewest_27 (by first | rfl | assumption) rfl rfl (by show i < 6; omega) (by decide) ?_
      refine j_eqi (show _ = nI (tg i) from (htg i hvm).1) ?_
      refine j_iald 0 (tg i) dX3_allFewest_28 (by first | rfl | assumption) rfl rfl (by have := (htg i hvm).2; show tg i < 100; omega) (by decide) ?_
      refine j_eqi (hR.few (htg i hvm).2) ?_
      refine j_iconst (v := (-1)) dX3_allFewest_29 (by decide) ?_
      refine j_icmp_ne (tgt := 38) dX3_allFewest_30 (by decide) (fun c30 => ?_) (fun c30 => ?_)
      · skip
        have hj : bN LF (tg i) = if bN LF (tg i) = -1 then 99 else bN LF (tg i) := (if_neg c30).symm
        refine j_aload_n dX3_allFewest_38 rfl ?_
        refine j_get 38 dX3_allFewest_39 (by first | rfl | assumption) in_X3 rfl (by decide) q1137 rfl ?_
        refine j_aload_n dX3_allFewest_42 rfl ?_
        refine j_get 28 dX3_allFewest_43 (by first | rfl | assumption) in_X3 rfl (by decide) q1127 rfl ?_
        refine j_iload_n dX3_allFewest_46 rfl ?_
        refine j_iald 0 i dX3_allFewest_47 (by first | rfl | assumption) rfl rfl (by show i < 6; omega) (by decide) ?_
        refine j_eqi (show _ = nI (tg i) from (htg i hvm).1) ?_
        refine j_iald 0 (tg i) dX3_allFewest_48 (by first | rfl | assumption) rfl rfl (by have := (htg i hvm).2; show tg i < 100; omega) (by decide) ?_
        refine j_eqi (hR.few (htg i hvm).2) ?_
        exact kj18 _ hj
      · skip
        have hj : (99 : Int32) = if bN LF (tg i) = -1 then 99 else bN LF (tg i) := (if_pos c30).symm
        refine j_bipush (v := 99) dX3_allFewest_33 (by decide) ?_
        refine j_goto (tgt := 49) dX3_allFewest_35 (by decide) ?_
        exact kj18 _ hj
