set_option maxRecDepth 100000
set_option maxHeartbeats 4000000 in
theorem m_worth {l : Launch} {D : va_G} {dT : Nat → ClassId} {H0 : Heap} {r : Nat → Nat} {nx : Nat} {g : j_H} {kI : Int32} {bs fg m nk w x s t : Nat} {F : Nat → Nat} {tk : Int64} {V : Nat → Nat → Int32} (hm : 0 < m) (hm2 : m ≤ 100) (z v : Nat) (hz : z < 80000) (hv : v < m) : MC (gG l D dT H0) yX3_worth cX3_worth 3 (some .int) 1 0 0 [.ref (r 100), .int (nI z), .int (nI v)] r (mdS r dT g kI bs fg m nk w x s t F tk V) nx (jq_i (if z / 8 / m = v then 1 else -(V 110 z)) r (mdS r dT g kI bs fg m nk w x s t F tk V) nx) := by
  have hzm : z / 8 / m < 2 ^ 31 := by
    have h1 := Nat.div_le_self (z / 8) m
    omega
  refine MC.ofJ [some (.ref (r 100)), some (.int (nI z)), some (.int (nI v))] rfl (Nat.le_of_ble_eq_true rfl) (by decide) ?_
  refine j_aload_n dX3_worth_0 rfl ?_
  refine j_iload_n dX3_worth_1 rfl ?_
  refine j_callVi (m_shownIn hm hm2 z (by omega)) dX3_worth_2 pmX3_shownIn q1352 q1354 qs45 (by first | rfl | assumption) rfl rfl rfl ⟨Nat.le_of_ble_eq_true rfl, Nat.le_of_ble_eq_true rfl⟩ ⟨Nat.le_of_ble_eq_true rfl, Nat.le_of_ble_eq_true rfl⟩ rfl (Nat.le_of_ble_eq_true rfl) ?_
  refine j_iload_n dX3_worth_5 rfl ?_
  refine j_icmp_ne (tgt := 13) dX3_worth_6 (by decide) (fun c6 => ?_) (fun c6 => ?_)
  · skip
    have c6 : ¬ z / 8 / m = v := fun q => c6 (by rw [q])
    refine j_aload_n dX3_worth_13 rfl ?_
    refine j_get 35 dX3_worth_14 (by first | rfl | assumption) in_X3 rfl (by decide) q1134 rfl ?_
    refine j_iload_n dX3_worth_17 rfl ?_
    refine j_iald 0 z dX3_worth_18 (by first | rfl | assumption) rfl rfl hz (by decide) ?_
    refine j_ineg dX3_worth_19 ?_
    refine j_iret dX3_worth_20 rfl rfl (Nat.le_refl _) (Nat.le_refl _) ?_
    exact jr_i (if_neg c6).symm
  · skip
    have c6 : z / 8 / m = v := (nI_eq hzm (by omega)).mp c6
    refine j_iconst (v := 1) dX3_worth_9 (by decide) ?_
    refine j_goto (tgt := 20) dX3_worth_10 (by decide) ?_
    refine j_iret dX3_worth_20 rfl rfl (Nat.le_refl _) (Nat.le_refl _) ?_
    exact jr_i (if_pos c6).symm
def q_game (r : Nat → Nat) (dT : Nat → ClassId) (g : j_H) (kI : Int32) (bs fg m nk : Nat) (F : Nat → Nat) (tk : Int64) (V : Nat → Nat → Int32) (nx n : Nat) (W : Nat → A4 → Int32) : j_Q := fun o r' h' nx' => o = .returned none ∧ r' = r ∧ nx' = nx ∧ ∃ (b : A4) (fr ln : Nat → Int32), okA m b ∧ h' = (mdS r dT g kI bs fg m nk b.1 b.2.1 b.2.2.1 b.2.2.2 F tk (vo V [(109, fr), (110, ln)])) ∧ (∀ s, s < 8 * m * m → fr s = W n (decM m s)) ∧ ∀ s, s < 8 * m * m → ln s = W (n - 1) (decM m s)
theorem q_game.isR {r : Nat → Nat} {dT : Nat → ClassId} {g : j_H} {kI : Int32} {bs fg m nk : Nat} {F : Nat → Nat} {tk : Int64} {V : Nat → Nat → Int32} {nx n : Nat} {W : Nat → A4 → Int32} : j_isR (q_game r dT g kI bs fg m nk F tk V nx n W) := fun _ _ _ _ hq => ⟨_, hq.1⟩
set_option maxHeartbeats 4000000 in
theorem m_layGame {l : Launch} {D : va_G} {dT : Nat → ClassId} {H0 : Heap} {r : Nat → Nat} {nx : Nat} {g : j_H} {kd bs fg m nk : Nat} {a : A4} {F : Nat → Nat} {tk : Int64} {V : Nat → Nat → Int32} (hD : okD kd bs m) (ha : okA m a) {ks : Nat → KY} (hks : mdKs (V 101) bs m nk ks) (hn8 : nk ≤ 8) (hn0 : 0 < nk) (v n : Nat) (hv : v < m) (hn : 1 ≤ n ∧ n ≤ 6) : MC (gG l D dT H0) yX3_layGame cX3_layGame 7 none 6 0 0 [.ref (r 100), .int (nI v), .int (nI n)] r (mdS r dT g (nI kd) bs fg m nk a.1 a.2.1 a.2.2.1 a.2.2.2 F tk V) nx (q_game r dT g (nI kd) bs fg m nk F tk V nx n (wth (fun k a => stk kd bs m (ks k) a) nk v)) := by
  have hm := hD.pos
  have hm2 := hD.le
  have hm3 : 2 ≤ m := by have := hD.2.1; have := hD.2.2.2.1; omega
  have hkd := hD.1
  have hmm := mm_le hm2
  obtain ⟨W, hW⟩ : ∃ W : Nat → A4 → Int32, wth (fun k a => stk kd bs m (ks k) a) nk v = W := ⟨_, rfl⟩
  have hW0 : ∀ b, W 0 b = 0 := fun b => by rw [← hW]; rfl
  have hW1 : ∀ i b, W (i + 1) b = mxK (fun k => if (stk kd bs m (ks k) b).2.2.1 = v then 1 else -(W i (stk kd bs m (ks k) b))) nk 0 (-1) := fun i b => by rw [← hW]; exact if_neg (by omega)
  rw [hW]
  clear hW
  refine MC.ofJ [some (.ref (r 100)), some (.int (nI v)), some (.int (nI n)), none, none, none, none] rfl (Nat.le_of_ble_eq_true rfl) (by decide) ?_
  refine j_re rfl rfl (h' := (mdS r dT g (nI kd) bs fg m nk a.1 a.2.1 a.2.2.1 a.2.2.2 F tk (vo V [(109, V 109), (110, V 110)]))) (by rw [vo_same _ (by simp)]) ?_
  refine j_iconst (v := 0) dX3_layGame_0 (by decide) ?_
  refine j_istore_n dX3_layGame_1 (by decide) rfl ?_
  refine j_less (L' := [some (.ref (r 100)), some (.int (nI v)), some (.int (nI n)), some (.int (nI 0)), none, none, none]) ⟨Or.inr rfl, Or.inr rfl, Or.inr rfl, Or.inr rfl, Or.inl rfl, Or.inl rfl, Or.inl rfl, trivial⟩ ?_
  refine j_lp2 (fun (k : Nat) (fr : Nat → Int32) => (mdS r dT g (nI kd) bs fg m nk a.1 a.2.1 a.2.2.1 a.2.2.2 F tk (vo V [(109, fr), (110, V 110)]))) (fun k _ => [some (.ref (r 100)), some (.int (nI v)), some (.int (nI n)), some (.int (nI k)), none, none, none]) (fun k fr => k ≤ 8 * m * m ∧ ∀ q, q < k → fr q = 0) (fun k _ => 8 * m * m - k) ?_ 0 (V 109) ⟨Nat.zero_le _, fun q hq => absurd hq (Nat.not_lt_zero _)⟩
  intro k fr ⟨hk, hz⟩ ih
  refine j_iload_n dX3_layGame_2 rfl ?_
  refine j_aload_n dX3_layGame_3 rfl ?_
  refine j_callVi m_states dX3_layGame_4 pmX3_states q1348 q1350 qs44 (by first | rfl | assumption) rfl rfl rfl ⟨Nat.le_of_ble_eq_true rfl, Nat.le_of_ble_eq_true rfl⟩ ⟨Nat.le_of_ble_eq_true rfl, Nat.le_of_ble_eq_true rfl⟩ rfl (Nat.le_of_ble_eq_true rfl) ?_
  refine j_icmp_ge (tgt := 23) dX3_layGame_7 (by decide) (fun c7 => ?_) (fun c7 => ?_)
  · skip
    have hk1 : k = 8 * m * m := by
      have := (nI_leI (by omega) (by omega)).mp c7
      omega
    have hz9 : ∀ s, s < 8 * m * m → fr s = 0 := fun s hs => hz s (by omega)
    clear hz hk1 hk
    refine j_iconst (v := 0) dX3_layGame_23 (by decide) ?_
    refine j_istore_n dX3_layGame_24 (by decide) rfl ?_
    refine j_less (L' := [some (.ref (r 100)), some (.int (nI v)), some (.int (nI n)), some (.int (nI 0)), none, none, none]) ⟨Or.inr rfl, Or.inr rfl, Or.inr rfl, Or.inr rfl, Or.inl rfl, Or.inl rfl, Or.inl rfl, trivial⟩ ?_
    refine j_lp4 (fun (i : Nat) (b : A4) (fr ln : Nat → Int32) => (mdS r dT g (nI kd) bs fg m nk b.1 b.2.1 b.2.2.1 b.2.2.2 F tk (vo V [(109, fr), (110, ln)]))) (fun i _ _ _ => [some (.ref (r 100)), some (.int (nI v)), some (.int (nI n)), some (.int (nI i)), none, none, none]) (fun i b fr ln => okA m b ∧ i ≤ n ∧ (∀ s, s < 8 * m * m → fr s = W i (decM m s)) ∧ (0 < i → ∀ s, s < 8 * m * m → ln s = W (i - 1) (decM m s))) (fun i _ _ _ => n - i) ?_ 0 a fr _ ⟨ha, Nat.zero_le _, fun s hs => (hz9 s hs).trans (hW0 _).symm, fun q => absurd q (Nat.lt_irrefl _)⟩
    clear ih hz9 fr
    intro i b fr ln ⟨hb, hin, hfr, hln⟩ ih
    refine j_iload_n dX3_layGame_25 rfl ?_
    refine j_iload_n dX3_layGame_26 rfl ?_
    refine j_icmp_ge (tgt := 169) dX3_layGame_27 (by decide) (fun c27 => ?_) (fun c27 => ?_)
    · skip
      have hni : i = n := by
        have := (nI_leI (by omega) (by omega)).mp c27
        omega
      subst hni
      refine j_vret dX3_layGame_169 rfl (Nat.le_refl _) (Nat.le_refl _) ?_
      exact ⟨rfl, rfl, rfl, b, fr, ln, hb, rfl, hfr, hln (by omega)⟩
    · skip
      have hni : i < n := Nat.lt_of_not_le (fun q => c27 (nI_le q (by omega)))
      refine j_iconst (v := 0) dX3_layGame_30 (by decide) ?_
      refine j_istore dX3_layGame_31 (by decide) rfl ?_
      refine j_less (L' := [some (.ref (r 100)), some (.int (nI v)), some (.int (nI n)), some (.int (nI i)), some (.int (nI 0)), none, none]) ⟨Or.inr rfl, Or.inr rfl, Or.inr rfl, Or.inr rfl, Or.inr rfl, Or.inl rfl, Or.inl rfl, trivial⟩ ?_
      refine j_lp2 (fun (k : Nat) (ln : Nat → Int32) => (mdS r dT g (nI kd) bs fg m nk b.1 b.2.1 b.2.2.1 b.2.2.2 F tk (vo V [(109, fr), (110, ln)]))) (fun k _ => [some (.ref (r 100)), some (.int (nI v)), some (.int (nI n)), some (.int (nI i)), some (.int (nI k)), none, none]) (fun k ln => k ≤ 8 * m * m ∧ ∀ q, q < k → ln q = fr q) (fun k _ => 8 * m * m - k) ?_ 0 ln ⟨Nat.zero_le _, fun q hq => absurd hq (Nat.not_lt_zero _)⟩
      clear hln ln
      intro k ln ⟨hk, hz⟩ ih9
      refine j_iload dX3_layGame_33 rfl ?_
      refine j_aload_n dX3_layGame_35 rfl ?_
      refine j_callVi m_states dX3_layGame_36 pmX3_states q1348 q1350 qs44 (by first | rfl | assumption) rfl rfl rfl ⟨Nat.le_of_ble_eq_true rfl, Nat.le_of_ble_eq_true rfl⟩ ⟨Nat.le_of_ble_eq_true rfl, Nat.le_of_ble_eq_true rfl⟩ rfl (Nat.le_of_ble_eq_true rfl) ?_
      refine j_icmp_ge (tgt := 62) dX3_layGame_39 (by decide) (fun c39 => ?_) (fun c39 => ?_)
      · skip
        have hk1 : k = 8 * m * m := by
          have := (nI_leI (by omega) (by omega)).mp c39
          omega
        have hln : ∀ s, s < 8 * m * m → ln s = W i (decM m s) := fun s hs => (hz s (by omega)).trans (hfr s hs)
        clear hz hk1 hk
        refine j_iconst (v := 0) dX3_layGame_62 (by decide) ?_
        refine j_istore dX3_layGame_63 (by decide) rfl ?_
        refine j_less (L' := [some (.ref (r 100)), some (.int (nI v)), some (.int (nI n)), some (.int (nI i)), some (.int (nI 0)), none, none]) ⟨Or.inr rfl, Or.inr rfl, Or.inr rfl, Or.inr rfl, Or.inr rfl, Or.inl rfl, Or.inl rfl, trivial⟩ ?_
        refine j_lp3 (fun (s : Nat) (b : A4) (fr : Nat → Int32) => (mdS r dT g (nI kd) bs fg m nk b.1 b.2.1 b.2.2.1 b.2.2.2 F tk (vo V [(109, fr), (110, ln)]))) (fun s _ _ => [some (.ref (r 100)), some (.int (nI v)), some (.int (nI n)), some (.int (nI i)), some (.int (nI s)), none, none]) (fun s b fr => okA m b ∧ s ≤ 8 * m * m ∧ ∀ q, q < s → fr q = W (i + 1) (decM m q)) (fun s _ _ => 8 * m * m - s) ?_ 0 b fr ⟨hb, Nat.zero_le _, fun q hq => absurd hq (Nat.not_lt_zero _)⟩
        clear ih9 hb b hfr fr
        intro s b fr ⟨hb, hsN, hfr⟩ ih2
        refine j_iload dX3_layGame_65 rfl ?_
        refine j_aload_n dX3_layGame_67 rfl ?_
        refine j_callVi m_states dX3_layGame_68 pmX3_states q1348 q1350 qs44 (by first | rfl | assumption) rfl rfl rfl ⟨Nat.le_of_ble_eq_true rfl, Nat.le_of_ble_eq_true rfl⟩ ⟨Nat.le_of_ble_eq_true rfl, Nat.le_of_ble_eq_true rfl⟩ rfl (Nat.le_of_ble_eq_true rfl) ?_
        refine j_icmp_ge (tgt := 163) dX3_layGame_71 (by decide) (fun c71 => ?_) (fun c71 => ?_)
        · skip
          have hsN2 : s = 8 * m * m := by
            have := (nI_leI (by omega) (by omega)).mp c71
            omega
          subst hsN2
          refine j_iinc dX3_layGame_163 rfl (by decide) rfl ?_
          refine j_goto (tgt := 25) dX3_layGame_166 (by decide) ?_
          refine j_less (L' := [some (.ref (r 100)), some (.int (nI v)), some (.int (nI n)), some (.int (nI (i + 1))), none, none, none]) ⟨Or.inr rfl, Or.inr rfl, Or.inr rfl, Or.inr (by rw [← nI_inc]), Or.inl rfl, Or.inl rfl, Or.inl rfl, trivial⟩ ?_
          exact ih (i + 1) b fr ln ⟨hb, by omega, hfr, fun _ => hln⟩ (by omega)
        · skip
          have hsN2 : s < 8 * m * m := Nat.lt_of_not_le (fun q => c71 (nI_le q (by omega)))
          refine j_aload_n dX3_layGame_74 rfl ?_
          refine j_get 34 dX3_layGame_75 (by first | rfl | assumption) in_X3 rfl (by decide) q1133 rfl ?_
          refine j_iload dX3_layGame_78 rfl ?_
          refine j_iconst (v := (-1)) dX3_layGame_80 (by decide) ?_
          refine j_iast 0 s dX3_layGame_81 (by first | rfl | assumption) rfl rfl (by show s < 80000; omega) (by decide) ?_
          refine j_mdW (f := _) (by decide) (by decide) rfl ?_
          refine j_iconst (v := 0) dX3_layGame_82 (by decide) ?_
          refine j_istore dX3_layGame_83 (by decide) rfl ?_
          refine j_less (L' := [some (.ref (r 100)), some (.int (nI v)), some (.int (nI n)), some (.int (nI i)), some (.int (nI s)), some (.int (nI 0)), none]) ⟨Or.inr rfl, Or.inr rfl, Or.inr rfl, Or.inr rfl, Or.inr rfl, Or.inr rfl, Or.inl rfl, trivial⟩ ?_
          refine j_lp4 (fun (k : Nat) (b : A4) (fr : Nat → Int32) (_ : Unit) => (mdS r dT g (nI kd) bs fg m nk b.1 b.2.1 b.2.2.1 b.2.2.2 F tk (vo V [(109, fr), (110, ln)]))) (fun k _ _ _ => [some (.ref (r 100)), some (.int (nI v)), some (.int (nI n)), some (.int (nI i)), some (.int (nI s)), some (.int (nI k)), none]) (fun k b fr _ => okA m b ∧ k ≤ nk ∧ (∀ q, q < s → fr q = W (i + 1) (decM m q)) ∧ mxK (fun k => if (stk kd bs m (ks k) (decM m s)).2.2.1 = v then 1 else -(W i (stk kd bs m (ks k) (decM m s)))) (nk - k) k (fr s) = W (i + 1) (decM m s)) (fun k _ _ _ => nk - k) ?_ 0 b _ () ⟨hb, Nat.zero_le _, fun q hq => (pk_un (by omega)).trans (hfr q hq), by rw [pk_us]; exact (hW1 i _).symm⟩
          clear hfr fr hb b
          intro k b fr _ ⟨hb, hkK, hfr, hmx⟩ ih3
          refine j_iload dX3_layGame_85 rfl ?_
          refine j_aload_n dX3_layGame_87 rfl ?_
          refine j_get 4 dX3_layGame_88 (by first | rfl | assumption) in_X3 rfl (by decide) q1103 rfl ?_
          refine j_icmp_ge (tgt := 157) dX3_layGame_91 (by decide) (fun c91 => ?_) (fun c91 => ?_)
          · skip
            have hkk : k = nk := by
              have := (nI_leI (by omega) (by omega)).mp c91
              omega
            rw [hkk, Nat.sub_self, mxK] at hmx
            refine j_iinc dX3_layGame_157 rfl (by decide) rfl ?_
            refine j_goto (tgt := 65) dX3_layGame_160 (by decide) ?_
            refine j_less (L' := [some (.ref (r 100)), some (.int (nI v)), some (.int (nI n)), some (.int (nI i)), some (.int (nI (s + 1))), none, none]) ⟨Or.inr rfl, Or.inr rfl, Or.inr rfl, Or.inr rfl, Or.inr (by rw [← nI_inc]), Or.inl rfl, Or.inl rfl, trivial⟩ ?_
            refine ih2 (s + 1) b fr ⟨hb, by omega, fun q hq => ?_⟩ (by omega)
            by_cases hqs : q = s
            · subst hqs; exact hmx
            · exact hfr q (by omega)
          · skip
            have hkK2 : k < nk := Nat.lt_of_not_le (fun q => c91 (nI_le q (by omega)))
            have hox : okA m (stk kd bs m (ks k) (decM m s)) := stk_ok hD (hks k hkK2).2 (decM_ok hm hsN2)
            have hxl := encM_lt hox
            rw [show nk - k = (nk - (k + 1)) + 1 by omega, mxK] at hmx
            refine j_aload_n dX3_layGame_94 rfl ?_
            refine j_get 34 dX3_layGame_95 (by first | rfl | assumption) in_X3 rfl (by decide) q1133 rfl ?_
            refine j_iload dX3_layGame_98 rfl ?_
            refine j_iald 0 s dX3_layGame_100 (by first | rfl | assumption) rfl rfl (by show s < 80000; omega) (by decide) ?_
            refine j_eqi (show _ = fr s from rfl) ?_
            refine j_iconst (v := 1) dX3_layGame_101 (by decide) ?_
            refine j_icmp_ge (tgt := 157) dX3_layGame_102 (by decide) (fun c102 => ?_) (fun c102 => ?_)
            · skip
              rw [if_neg (fun q => Int32.lt_irrefl (Int32.lt_of_lt_of_le q c102))] at hmx
              refine j_iinc dX3_layGame_157 rfl (by decide) rfl ?_
              refine j_goto (tgt := 65) dX3_layGame_160 (by decide) ?_
              refine j_less (L' := [some (.ref (r 100)), some (.int (nI v)), some (.int (nI n)), some (.int (nI i)), some (.int (nI (s + 1))), none, none]) ⟨Or.inr rfl, Or.inr rfl, Or.inr rfl, Or.inr rfl, Or.inr (by rw [← nI_inc]), Or.inl rfl, Or.inl rfl, trivial⟩ ?_
              refine ih2 (s + 1) b fr ⟨hb, by omega, fun q hq => ?_⟩ (by omega)
              by_cases hqs : q = s
              · subst hqs; exact hmx
              · exact hfr q (by omega)
            · skip
              rw [if_pos (Int32.not_le.mp c102)] at hmx
              refine j_aload_n dX3_layGame_105 rfl ?_
              refine j_aload_n dX3_layGame_106 rfl ?_
              refine j_iload dX3_layGame_107 rfl ?_
              refine j_iload dX3_layGame_109 rfl ?_
              refine j_callVi (m_behind (V := (vo V [(109, fr), (110, ln)])) hD k (by omega) (ks k) (hks k hkK2).2 (hks k hkK2).1.w s hsN2) dX3_layGame_111 pmX3_behind q1356 q1358 qs46 (by first | rfl | assumption) rfl rfl rfl ⟨Nat.le_of_ble_eq_true rfl, Nat.le_of_ble_eq_true rfl⟩ ⟨Nat.le_of_ble_eq_true rfl, Nat.le_of_ble_eq_true rfl⟩ rfl (Nat.le_of_ble_eq_true rfl) ?_
              refine j_iload_n dX3_layGame_114 rfl ?_
              refine j_callVi (m_worth (V := (vo V [(109, fr), (110, ln)])) hm hm2 (encM m (stk kd bs m (ks k) (decM m s))) v (by omega) hv) dX3_layGame_115 pmX3_worth q1468 q1470 qs59 (by first | rfl | assumption) rfl rfl rfl ⟨Nat.le_of_ble_eq_true rfl, Nat.le_of_ble_eq_true rfl⟩ ⟨Nat.le_of_ble_eq_true rfl, Nat.le_of_ble_eq_true rfl⟩ rfl (Nat.le_of_ble_eq_true rfl) ?_
              refine j_eqi (show _ = (fun k => if (stk kd bs m (ks k) (decM m s)).2.2.1 = v then 1 else -(W i (stk kd bs m (ks k) (decM m s)))) k from ?_) ?_
              · show (if (decM m (encM m (stk kd bs m (ks k) (decM m s)))).2.2.1 = v then 1 else -(ln (encM m (stk kd bs m (ks k) (decM m s))))) = _
                rw [hln _ hxl, decM_encM hox]
              generalize hvf : (fun k => if (stk kd bs m (ks k) (decM m s)).2.2.1 = v then 1 else -(W i (stk kd bs m (ks k) (decM m s)))) k = y at hmx ⊢
              refine j_istore dX3_layGame_118 (by decide) rfl ?_
              refine j_aload_n dX3_layGame_120 rfl ?_
              refine j_get 34 dX3_layGame_121 (by first | rfl | assumption) in_X3 rfl (by decide) q1133 rfl ?_
              refine j_iload dX3_layGame_124 rfl ?_
              refine j_join (tgt := 150) (fun x => x = if fr s < y then y else fr s) (fun v126 hv126 => ?_) (fun kj126 => ?_)
              · skip
                subst hv126
                refine j_iast 0 s dX3_layGame_150 (by first | rfl | assumption) rfl rfl (by show s < 80000; omega) (by decide) ?_
                refine j_mdW (f := _) (by decide) (by decide) rfl ?_
                refine j_iinc dX3_layGame_151 rfl (by decide) rfl ?_
                refine j_goto (tgt := 85) dX3_layGame_154 (by decide) ?_
                refine j_less (L' := [some (.ref (r 100)), some (.int (nI v)), some (.int (nI n)), some (.int (nI i)), some (.int (nI s)), some (.int (nI (k + 1))), none]) ⟨Or.inr rfl, Or.inr rfl, Or.inr rfl, Or.inr rfl, Or.inr rfl, Or.inr (by rw [← nI_inc]), Or.inl rfl, trivial⟩ ?_
                refine ih3 (k + 1) _ _ () ⟨hox, by omega, fun q hq => (pk_un (by omega)).trans (hfr q hq), by rw [pk_us, ← hvf]; exact hmx⟩ (by omega)
              · skip
                refine j_iload dX3_layGame_126 rfl ?_
                refine j_aload_n dX3_layGame_128 rfl ?_
                refine j_get 34 dX3_layGame_129 (by first | rfl | assumption) in_X3 rfl (by decide) q1133 rfl ?_
                refine j_iload dX3_layGame_132 rfl ?_
                refine j_iald 0 s dX3_layGame_134 (by first | rfl | assumption) rfl rfl (by show s < 80000; omega) (by decide) ?_
                refine j_eqi (show _ = fr s from rfl) ?_
                refine j_icmp_le (tgt := 143) dX3_layGame_135 (by decide) (fun c135 => ?_) (fun c135 => ?_)
                · skip
                  have hj : fr s = if fr s < y then y else fr s := by rw [if_neg (fun q => Int32.lt_irrefl (Int32.lt_of_lt_of_le q c135))]
                  refine j_aload_n dX3_layGame_143 rfl ?_
                  refine j_get 34 dX3_layGame_144 (by first | rfl | assumption) in_X3 rfl (by decide) q1133 rfl ?_
                  refine j_iload dX3_layGame_147 rfl ?_
                  refine j_iald 0 s dX3_layGame_149 (by first | rfl | assumption) rfl rfl (by show s < 80000; omega) (by decide) ?_
                  refine j_eqi (show _ = fr s from rfl) ?_
                  exact kj126 _ hj
                · skip
                  have hj : y = if fr s < y then y else fr s := by rw [if_pos (Int32.not_le.mp c135)]
                  refine j_iload dX3_layGame_138 rfl ?_
                  refine j_goto (tgt := 150) dX3_layGame_140 (by decide) ?_
                  exact kj126 _ hj
      · skip
        have hk1 : k < 8 * m * m := Nat.lt_of_not_le (fun q => c39 (nI_le q (by omega)))
        refine j_aload_n dX3_layGame_42 rfl ?_
        refine j_get 35 dX3_layGame_43 (by first | rfl | assumption) in_X3 rfl (by decide) q1134 rfl ?_
        refine j_iload dX3_layGame_46 rfl ?_
        refine j_aload_n dX3_layGame_48 rfl ?_
        refine j_get 34 dX3_layGame_49 (by first | rfl | assumption) in_X3 rfl (by decide) q1133 rfl ?_
        refine j_iload dX3_layGame_52 rfl ?_
        refine j_iald 0 k dX3_layGame_54 (by first | rfl | assumption) rfl rfl (by show k < 80000; omega) (by decide) ?_
        refine j_iast 0 k dX3_layGame_55 (by first | rfl | assumption) rfl rfl (by show k < 80000; omega) (by decide) ?_
        refine j_mdW (f := _) (by decide) (by decide) rfl ?_
        refine j_iinc dX3_layGame_56 rfl (by decide) rfl ?_
        refine j_goto (tgt := 33) dX3_layGame_59 (by decide) ?_
        refine j_less (L' := [some (.ref (r 100)), some (.int (nI v)), some (.int (nI n)), some (.int (nI i)), some (.int (nI (k + 1))), none, none]) ⟨Or.inr rfl, Or.inr rfl, Or.inr rfl, Or.inr rfl, Or.inr (by rw [← nI_inc]), Or.inl rfl, Or.inl rfl, trivial⟩ ?_
        refine ih9 (k + 1) _ ⟨by omega, fun q hq => ?_⟩ (by omega)
        by_cases hqk : q = k
        · subst hqk; exact pk_us
        · exact (pk_un hqk).trans (hz q (by omega))
  · skip
    have hk1 : k < 8 * m * m := Nat.lt_of_not_le (fun q => c7 (nI_le q (by omega)))
    refine j_aload_n dX3_layGame_10 rfl ?_
    refine j_get 34 dX3_layGame_11 (by first | rfl | assumption) in_X3 rfl (by decide) q1133 rfl ?_
    refine j_iload_n dX3_layGame_14 rfl ?_
    refine j_iconst (v := 0) dX3_layGame_15 (by decide) ?_
    refine j_iast 0 k dX3_layGame_16 (by first | rfl | assumption) rfl rfl (by show k < 80000; omega) (by decide) ?_
    refine j_mdW (f := _) (by decide) (by decide) rfl ?_
    refine j_iinc dX3_layGame_17 rfl (by decide) rfl ?_
    refine j_goto (tgt := 2) dX3_layGame_20 (by decide) ?_
    refine j_less (L' := [some (.ref (r 100)), some (.int (nI v)), some (.int (nI n)), some (.int (nI (k + 1))), none, none, none]) ⟨Or.inr rfl, Or.inr rfl, Or.inr rfl, Or.inr (by rw [← nI_inc]), Or.inl rfl, Or.inl rfl, Or.inl rfl, trivial⟩ ?_
    refine ih (k + 1) _ ⟨by omega, fun q hq => ?_⟩ (by omega)
    by_cases hqk : q = k
    · subst hqk; exact pk_us
    · exact (pk_un hqk).trans (hz q (by omega))
set_option maxHeartbeats 4000000 in
theorem m_gameo {l : Launch} {D : va_G} {dT : Nat → ClassId} {H0 : Heap} {r : Nat → Nat} {nx : Nat} {g : j_H} {kI : Int32} {bs fg m nk w x s t : Nat} {F : Nat → Nat} {tk : Int64} {V : Nat → Nat → Int32} (y n u : Int32) (hA : ¬ ((0 ≤ y ∧ y ≤ nI m - 1) ∧ (0 ≤ n ∧ n ≤ 6) ∧ (0 ≤ u ∧ u ≤ 1))) : MC (gG l D dT H0) yX3_game cX3_game 8 (some .int) 7 0 0 [.ref (r 100), .int y, .int n, .int u] r (mdS r dT g kI bs fg m nk w x s t F tk V) nx (jq_i (-1000000002) r (mdS r dT g kI bs fg m nk w x s t F tk V) nx) := by
  refine MC.ofJ [some (.ref (r 100)), some (.int y), some (.int n), some (.int u), none, none, none, none] rfl (Nat.le_of_ble_eq_true rfl) (by decide) ?_
  refine j_aload_n dX3_game_0 rfl ?_
  refine j_iload_n dX3_game_1 rfl ?_
  refine j_callVi (m_isNumber _) dX3_game_2 pmX3_isNumber q1336 q1338 qs41 (by first | rfl | assumption) rfl rfl rfl ⟨Nat.le_of_ble_eq_true rfl, Nat.le_of_ble_eq_true rfl⟩ ⟨Nat.le_of_ble_eq_true rfl, Nat.le_of_ble_eq_true rfl⟩ rfl (Nat.le_of_ble_eq_true rfl) ?_
  refine j_ifb_eq (tgt := 27) dX3_game_5 (by decide) (fun c5 => ?_) (fun c5 => ?_)
  · skip
    refine j_ldc dX3_game_27 q1231 ?_
    refine j_iret dX3_game_29 rfl rfl (Nat.le_refl _) (Nat.le_refl _) ?_
    exact jr_i rfl
  · skip
    refine j_iload_n dX3_game_8 rfl ?_
    refine j_iconst (v := 0) dX3_game_9 (by decide) ?_
    refine j_bipush (v := 6) dX3_game_10 (by decide) ?_
    refine j_callSi (c_X3_in _ _ _) dX3_game_12 pmX3_in q1228 q1229 rfl ⟨Nat.le_of_ble_eq_true rfl, Nat.le_of_ble_eq_true rfl⟩ ⟨Nat.le_of_ble_eq_true rfl, Nat.le_of_ble_eq_true rfl⟩ rfl (Nat.le_of_ble_eq_true rfl) ?_
    refine j_ifb_eq (tgt := 27) dX3_game_15 (by decide) (fun c15 => ?_) (fun c15 => ?_)
    · skip
      refine j_ldc dX3_game_27 q1231 ?_
      refine j_iret dX3_game_29 rfl rfl (Nat.le_refl _) (Nat.le_refl _) ?_
      exact jr_i rfl
    · skip
      refine j_iload_n dX3_game_18 rfl ?_
      refine j_iconst (v := 0) dX3_game_19 (by decide) ?_
      refine j_iconst (v := 1) dX3_game_20 (by decide) ?_
      refine j_callSi (c_X3_in _ _ _) dX3_game_21 pmX3_in q1228 q1229 rfl ⟨Nat.le_of_ble_eq_true rfl, Nat.le_of_ble_eq_true rfl⟩ ⟨Nat.le_of_ble_eq_true rfl, Nat.le_of_ble_eq_true rfl⟩ rfl (Nat.le_of_ble_eq_true rfl) ?_
      refine j_ifb_ne (tgt := 30) dX3_game_24 (by decide) (fun c24 => ?_) (fun c24 => ?_)
      · skip
        exact absurd ⟨c5, c15, c24⟩ hA
      · skip
        refine j_ldc dX3_game_27 q1231 ?_
        refine j_iret dX3_game_29 rfl rfl (Nat.le_refl _) (Nat.le_refl _) ?_
        exact jr_i rfl
set_option maxHeartbeats 4000000 in
theorem m_game1 {l : Launch} {D : va_G} {dT : Nat → ClassId} {H0 : Heap} {r : Nat → Nat} {nx : Nat} {g : j_H} {kd bs fg m nk : Nat} {a : A4} {F : Nat → Nat} {tk : Int64} {V : Nat → Nat → Int32} (hD : okD kd bs m) (ha : okA m a) {ks : Nat → KY} (hks : mdKs (V 101) bs m nk ks) (hn8 : nk ≤ 8) (hn0 : 0 < nk) (v n : Nat) (w : Int32) (hv : v < m) (hn : 1 ≤ n ∧ n ≤ 6) (hw : 0 ≤ w ∧ w ≤ 1) : MC (gG l D dT H0) yX3_game cX3_game 8 (some .int) 7 0 0 [.ref (r 100), .int (nI v), .int (nI n), .int w] r (mdS r dT g (nI kd) bs fg m nk a.1 a.2.1 a.2.2.1 a.2.2.2 F tk V) nx (jq_m (if w = 0 then wth (fun k a => stk kd bs m (ks k) a) nk v n a else gfst (fun k => if (stk kd bs m (ks k) a).2.2.1 = v then 1 else -(wth (fun k a => stk kd bs m (ks k) a) nk v (n - 1) (stk kd bs m (ks k) a))) (wth (fun k a => stk kd bs m (ks k) a) nk v n a) nk 0) r dT g (nI kd) bs fg m nk a F tk V nx) := by
  have hm := hD.pos
  have hm2 := hD.le
  have hm3 : 2 ≤ m := by have := hD.2.1; have := hD.2.2.2.1; omega
  have hkd := hD.1
  have hmm := mm_le hm2
  have hea := encM_lt ha
  obtain ⟨W, hW⟩ : ∃ W : Nat → A4 → Int32, wth (fun k a => stk kd bs m (ks k) a) nk v = W := ⟨_, rfl⟩
  have hLG := m_layGame (l := l) (D := D) (dT := dT) (H0 := H0) (r := r) (nx := nx) (g := g) (fg := fg) (F := F) (tk := tk) (V := V) hD ha hks hn8 hn0 v n hv hn
  rw [hW] at hLG
  rw [hW]
  clear hW
  refine MC.ofJ [some (.ref (r 100)), some (.int (nI v)), some (.int (nI n)), some (.int w), none, none, none, none] rfl (Nat.le_of_ble_eq_true rfl) (by decide) ?_
  refine j_aload_n dX3_game_0 rfl ?_
  refine j_iload_n dX3_game_1 rfl ?_
  refine j_callVi (m_isNumber _) dX3_game_2 pmX3_isNumber q1336 q1338 qs41 (by first | rfl | assumption) rfl rfl rfl ⟨Nat.le_of_ble_eq_true rfl, Nat.le_of_ble_eq_true rfl⟩ ⟨Nat.le_of_ble_eq_true rfl, Nat.le_of_ble_eq_true rfl⟩ rfl (Nat.le_of_ble_eq_true rfl) ?_
  refine j_ifb_eq (tgt := 27) dX3_game_5 (by decide) (fun c5 => absurd (nI_inr hv (by omega)) c5) (fun c5 => ?_)
  refine j_iload_n dX3_game_8 rfl ?_
  refine j_iconst (v := 0) dX3_game_9 (by decide) ?_
  refine j_bipush (v := 6) dX3_game_10 (by decide) ?_
  refine j_callSi (c_X3_in _ _ _) dX3_game_12 pmX3_in q1228 q1229 rfl ⟨Nat.le_of_ble_eq_true rfl, Nat.le_of_ble_eq_true rfl⟩ ⟨Nat.le_of_ble_eq_true rfl, Nat.le_of_ble_eq_true rfl⟩ rfl (Nat.le_of_ble_eq_true rfl) ?_
  refine j_ifb_eq (tgt := 27) dX3_game_15 (by decide) (fun c15 => absurd ⟨nI_pos' (by omega), nI_le (b := 6) hn.2 (by decide)⟩ c15) (fun c15 => ?_)
  refine j_iload_n dX3_game_18 rfl ?_
  refine j_iconst (v := 0) dX3_game_19 (by decide) ?_
  refine j_iconst (v := 1) dX3_game_20 (by decide) ?_
  refine j_callSi (c_X3_in _ _ _) dX3_game_21 pmX3_in q1228 q1229 rfl ⟨Nat.le_of_ble_eq_true rfl, Nat.le_of_ble_eq_true rfl⟩ ⟨Nat.le_of_ble_eq_true rfl, Nat.le_of_ble_eq_true rfl⟩ rfl (Nat.le_of_ble_eq_true rfl) ?_
  refine j_ifb_ne (tgt := 30) dX3_game_24 (by decide) (fun c24 => ?_) (fun c24 => absurd hw c24)
  refine j_iload_n dX3_game_30 rfl ?_
  refine j_if_eq (tgt := 41) dX3_game_31 (by decide) (fun c31 => absurd c31 (nI_ne (by omega) (by omega))) (fun c31 => ?_)
  refine j_aload_n dX3_game_34 rfl ?_
  refine j_get 4 dX3_game_35 (by first | rfl | assumption) in_X3 rfl (by decide) q1103 rfl ?_
  refine j_if_ne (tgt := 51) dX3_game_38 (by decide) (fun c38 => ?_) (fun c38 => absurd c38 (nI_ne hn0 (by omega)))
  refine j_aload_n dX3_game_51 rfl ?_
  refine j_callVi (m_stateNow ha.2.2.2) dX3_game_52 pmX3_stateNow q1344 q1346 qs43 (by first | rfl | assumption) rfl rfl rfl ⟨Nat.le_of_ble_eq_true rfl, Nat.le_of_ble_eq_true rfl⟩ ⟨Nat.le_of_ble_eq_true rfl, Nat.le_of_ble_eq_true rfl⟩ rfl (Nat.le_of_ble_eq_true rfl) ?_
  refine j_istore dX3_game_55 (by decide) rfl ?_
  refine j_aload_n dX3_game_57 rfl ?_
  refine j_iload_n dX3_game_58 rfl ?_
  refine j_iload_n dX3_game_59 rfl ?_
  refine j_callV hLG q_game.isR dX3_game_60 pmX3_layGame q1464 q1466 qs58 (by first | rfl | assumption) rfl rfl rfl ⟨Nat.le_of_ble_eq_true rfl, Nat.le_of_ble_eq_true rfl⟩ ⟨Nat.le_of_ble_eq_true rfl, Nat.le_of_ble_eq_true rfl⟩ rfl (Nat.le_of_ble_eq_true rfl) ?_
  rintro v9 r h9 nx ⟨e9, rfl, rfl, b, fr, ln, hb, rfl, hfr, hln⟩
  cases e9
  refine j_aload_n dX3_game_63 rfl ?_
  refine j_get 34 dX3_game_64 (by first | rfl | assumption) in_X3 rfl (by decide) q1133 rfl ?_
  refine j_iload dX3_game_67 rfl ?_
  refine j_iald 0 (encM m a) dX3_game_69 (by first | rfl | assumption) rfl rfl (by show encM m a < 80000; omega) (by decide) ?_
  refine j_eqi (show _ = W n a from (hfr _ hea).trans (by rw [decM_encM ha])) ?_
  refine j_istore dX3_game_70 (by decide) rfl ?_
  refine j_iconst (v := (-1)) dX3_game_72 (by decide) ?_
  refine j_istore dX3_game_73 (by decide) rfl ?_
  refine j_aload_n dX3_game_75 rfl ?_
  refine j_get 4 dX3_game_76 (by first | rfl | assumption) in_X3 rfl (by decide) q1103 rfl ?_
  refine j_iconst (v := 1) dX3_game_79 (by decide) ?_
  refine j_isub dX3_game_80 ?_
  refine j_istore dX3_game_81 (by decide) rfl ?_
  refine j_less (L' := [some (.ref (r 100)), some (.int (nI v)), some (.int (nI n)), some (.int w), some (.int (nI (encM m a))), some (.int (W n a)), some (.int (gfst (fun k => if (stk kd bs m (ks k) a).2.2.1 = v then 1 else -(W (n - 1) (stk kd bs m (ks k) a))) (W n a) (nk - nk) nk)), some (.int (nI nk - 1))]) ⟨Or.inr rfl, Or.inr rfl, Or.inr rfl, Or.inr rfl, Or.inr rfl, Or.inr rfl, Or.inr (by rw [Nat.sub_self]; rfl), Or.inr rfl, trivial⟩ ?_
  refine j_lp2 (fun (k : Nat) (b : A4) => (mdS r dT g (nI kd) bs fg m nk b.1 b.2.1 b.2.2.1 b.2.2.2 F tk (vo V [(109, fr), (110, ln)]))) (fun k _ => [some (.ref (r 100)), some (.int (nI v)), some (.int (nI n)), some (.int w), some (.int (nI (encM m a))), some (.int (W n a)), some (.int (gfst (fun k => if (stk kd bs m (ks k) a).2.2.1 = v then 1 else -(W (n - 1) (stk kd bs m (ks k) a))) (W n a) (nk - k) k)), some (.int (nI k - 1))]) (fun k b => okA m b ∧ k ≤ nk) (fun k _ => k) ?_ nk b ⟨hb, Nat.le_refl _⟩
  clear hb b
  intro k b ⟨hb, hkK⟩ ih
  refine j_iload dX3_game_83 rfl ?_
  refine j_if_lt (tgt := 121) dX3_game_85 (by decide) (fun c85 => ?_) (fun c85 => ?_)
  · skip
    have hk0 : k = 0 := by
      rcases Nat.eq_zero_or_pos k with q | q
      · exact q
      · rw [show (1 : Int32) = nI 1 from rfl, nI_sub q] at c85
        exact absurd c85 (Int32.not_lt.mpr (nI_pos' (by omega)))
    subst hk0
    refine j_aload_n dX3_game_121 rfl ?_
    refine j_iload dX3_game_122 rfl ?_
    refine j_callVv (m_setState hm hm2 (encM m a) (by omega)) dX3_game_124 pmX3_setState q1360 q1362 qs47 (by first | rfl | assumption) rfl rfl rfl ⟨Nat.le_of_ble_eq_true rfl, Nat.le_of_ble_eq_true rfl⟩ ⟨Nat.le_of_ble_eq_true rfl, Nat.le_of_ble_eq_true rfl⟩ rfl (Nat.le_of_ble_eq_true rfl) ?_
    refine j_iload_n dX3_game_127 rfl ?_
    refine j_if_ne (tgt := 136) dX3_game_128 (by decide) (fun c128 => ?_) (fun c128 => ?_)
    · skip
      refine j_iload dX3_game_136 rfl ?_
      refine j_iret dX3_game_138 rfl rfl (Nat.le_refl _) (Nat.le_refl _) ?_
      rw [decM_encM ha]
      refine jm_i ?_ (vo_ms (by intro q hq; simp at hq; rcases hq with rfl | rfl <;> exact ⟨Nat.le_of_ble_eq_true rfl, Nat.le_of_ble_eq_true rfl⟩))
      exact (if_neg c128).symm
    · skip
      refine j_iload dX3_game_131 rfl ?_
      refine j_goto (tgt := 138) dX3_game_133 (by decide) ?_
      refine j_iret dX3_game_138 rfl rfl (Nat.le_refl _) (Nat.le_refl _) ?_
      rw [decM_encM ha]
      refine jm_i ?_ (vo_ms (by intro q hq; simp at hq; rcases hq with rfl | rfl <;> exact ⟨Nat.le_of_ble_eq_true rfl, Nat.le_of_ble_eq_true rfl⟩))
      exact (if_pos c128).symm
  · skip
    have hk0 : 0 < k := by
      rcases Nat.eq_zero_or_pos k with q | q
      · rw [q] at c85; exact absurd (by decide) c85
      · exact q
    obtain ⟨k, rfl⟩ : ∃ k', k = k' + 1 := ⟨k - 1, by omega⟩
    have hke : nI (k + 1) - 1 = nI k := by rw [show (1 : Int32) = nI 1 from rfl, nI_sub (by omega)]; rfl
    rw [hke]
    have hox : okA m (stk kd bs m (ks k) a) := stk_ok hD (hks k (by omega)).2 ha
    have hxl := encM_lt hox
    refine j_aload_n dX3_game_88 rfl ?_
    refine j_aload_n dX3_game_89 rfl ?_
    refine j_iload dX3_game_90 rfl ?_
    refine j_iload dX3_game_92 rfl ?_
    refine j_callVi (m_behind (V := (vo V [(109, fr), (110, ln)])) hD k (by omega) (ks k) (hks k (by omega)).2 (hks k (by omega)).1.w (encM m a) hea) dX3_game_94 pmX3_behind q1356 q1358 qs46 (by first | rfl | assumption) rfl rfl rfl ⟨Nat.le_of_ble_eq_true rfl, Nat.le_of_ble_eq_true rfl⟩ ⟨Nat.le_of_ble_eq_true rfl, Nat.le_of_ble_eq_true rfl⟩ rfl (Nat.le_of_ble_eq_true rfl) ?_
    rw [decM_encM ha]
    refine j_iload_n dX3_game_97 rfl ?_
    refine j_callVi (m_worth (V := (vo V [(109, fr), (110, ln)])) hm hm2 (encM m (stk kd bs m (ks k) a)) v (by omega) hv) dX3_game_98 pmX3_worth q1468 q1470 qs59 (by first | rfl | assumption) rfl rfl rfl ⟨Nat.le_of_ble_eq_true rfl, Nat.le_of_ble_eq_true rfl⟩ ⟨Nat.le_of_ble_eq_true rfl, Nat.le_of_ble_eq_true rfl⟩ rfl (Nat.le_of_ble_eq_true rfl) ?_
    refine j_eqi (show _ = (fun k => if (stk kd bs m (ks k) a).2.2.1 = v then 1 else -(W (n - 1) (stk kd bs m (ks k) a))) k from ?_) ?_
    · show (if (decM m (encM m (stk kd bs m (ks k) a))).2.2.1 = v then 1 else -(ln (encM m (stk kd bs m (ks k) a)))) = _
      rw [hln _ hxl, decM_encM hox]
    refine j_iload dX3_game_101 rfl ?_
    refine j_icmp_ne (tgt := 111) dX3_game_103 (by decide) (fun c103 => ?_) (fun c103 => ?_)
    · skip
      have hj : gfst (fun k => if (stk kd bs m (ks k) a).2.2.1 = v then 1 else -(W (n - 1) (stk kd bs m (ks k) a))) (W n a) (nk - (k + 1)) (k + 1) = gfst (fun k => if (stk kd bs m (ks k) a).2.2.1 = v then 1 else -(W (n - 1) (stk kd bs m (ks k) a))) (W n a) (nk - k) k := by rw [show nk - k = (nk - (k + 1)) + 1 by omega, gfst, if_neg c103]
      refine j_iload dX3_game_111 rfl ?_
      refine j_istore dX3_game_113 (by decide) rfl ?_
      refine j_iinc dX3_game_115 rfl (by decide) rfl ?_
      refine j_goto (tgt := 83) dX3_game_118 (by decide) ?_
      refine j_less (L' := [some (.ref (r 100)), some (.int (nI v)), some (.int (nI n)), some (.int w), some (.int (nI (encM m a))), some (.int (W n a)), some (.int (gfst (fun k => if (stk kd bs m (ks k) a).2.2.1 = v then 1 else -(W (n - 1) (stk kd bs m (ks k) a))) (W n a) (nk - k) k)), some (.int (nI k - 1))]) ⟨Or.inr rfl, Or.inr rfl, Or.inr rfl, Or.inr rfl, Or.inr rfl, Or.inr rfl, Or.inr (by rw [hj]), Or.inr (by rw [← i32_dec]), trivial⟩ ?_
      exact ih k _ ⟨hox, by omega⟩ (by omega)
    · skip
      have hj : nI k = gfst (fun k => if (stk kd bs m (ks k) a).2.2.1 = v then 1 else -(W (n - 1) (stk kd bs m (ks k) a))) (W n a) (nk - k) k := by rw [show nk - k = (nk - (k + 1)) + 1 by omega, gfst, if_pos c103]
      refine j_iload dX3_game_106 rfl ?_
      refine j_goto (tgt := 113) dX3_game_108 (by decide) ?_
      refine j_istore dX3_game_113 (by decide) rfl ?_
      refine j_iinc dX3_game_115 rfl (by decide) rfl ?_
      refine j_goto (tgt := 83) dX3_game_118 (by decide) ?_
      refine j_less (L' := [some (.ref (r 100)), some (.int (nI v)), some (.int (nI n)), some (.int w), some (.int (nI (encM m a))), some (.int (W n a)), some (.int (gfst (fun k => if (stk kd bs m (ks k) a).2.2.1 = v then 1 else -(W (n - 1) (stk kd bs m (ks k) a))) (W n a) (nk - k) k)), some (.int (nI k - 1))]) ⟨Or.inr rfl, Or.inr rfl, Or.inr rfl, Or.inr rfl, Or.inr rfl, Or.inr rfl, Or.inr (by rw [hj]), Or.inr (by rw [← i32_dec]), trivial⟩ ?_
      exact ih k _ ⟨hox, by omega⟩ (by omega)
set_option maxHeartbeats 4000000 in
theorem m_game0 {l : Launch} {D : va_G} {dT : Nat → ClassId} {H0 : Heap} {r : Nat → Nat} {nx : Nat} {g : j_H} {kd bs fg m nk : Nat} {a : A4} {F : Nat → Nat} {tk : Int64} {V : Nat → Nat → Int32} (hm : 0 < m) (hm2 : m ≤ 100) (v n : Nat) (w : Int32) (hv : v < m) (hn : n ≤ 6) (hw : 0 ≤ w ∧ w ≤ 1) (hz : n = 0 ∨ nk = 0) : MC (gG l D dT H0) yX3_game cX3_game 8 (some .int) 7 0 0 [.ref (r 100), .int (nI v), .int (nI n), .int w] r (mdS r dT g (nI kd) bs fg m nk a.1 a.2.1 a.2.2.1 a.2.2.2 F tk V) nx (jq_i (if w = 0 then 0 else -1) r (mdS r dT g (nI kd) bs fg m nk a.1 a.2.1 a.2.2.1 a.2.2.2 F tk V) nx) := by
  refine MC.ofJ [some (.ref (r 100)), some (.int (nI v)), some (.int (nI n)), some (.int w), none, none, none, none] rfl (Nat.le_of_ble_eq_true rfl) (by decide) ?_
  refine j_aload_n dX3_game_0 rfl ?_
  refine j_iload_n dX3_game_1 rfl ?_
  refine j_callVi (m_isNumber _) dX3_game_2 pmX3_isNumber q1336 q1338 qs41 (by first | rfl | assumption) rfl rfl rfl ⟨Nat.le_of_ble_eq_true rfl, Nat.le_of_ble_eq_true rfl⟩ ⟨Nat.le_of_ble_eq_true rfl, Nat.le_of_ble_eq_true rfl⟩ rfl (Nat.le_of_ble_eq_true rfl) ?_
  refine j_ifb_eq (tgt := 27) dX3_game_5 (by decide) (fun c5 => absurd (nI_inr hv (by omega)) c5) (fun c5 => ?_)
  refine j_iload_n dX3_game_8 rfl ?_
  refine j_iconst (v := 0) dX3_game_9 (by decide) ?_
  refine j_bipush (v := 6) dX3_game_10 (by decide) ?_
  refine j_callSi (c_X3_in _ _ _) dX3_game_12 pmX3_in q1228 q1229 rfl ⟨Nat.le_of_ble_eq_true rfl, Nat.le_of_ble_eq_true rfl⟩ ⟨Nat.le_of_ble_eq_true rfl, Nat.le_of_ble_eq_true rfl⟩ rfl (Nat.le_of_ble_eq_true rfl) ?_
  refine j_ifb_eq (tgt := 27) dX3_game_15 (by decide) (fun c15 => absurd ⟨nI_pos' (by omega), nI_le (b := 6) hn (by decide)⟩ c15) (fun c15 => ?_)
  refine j_iload_n dX3_game_18 rfl ?_
  refine j_iconst (v := 0) dX3_game_19 (by decide) ?_
  refine j_iconst (v := 1) dX3_game_20 (by decide) ?_
  refine j_callSi (c_X3_in _ _ _) dX3_game_21 pmX3_in q1228 q1229 rfl ⟨Nat.le_of_ble_eq_true rfl, Nat.le_of_ble_eq_true rfl⟩ ⟨Nat.le_of_ble_eq_true rfl, Nat.le_of_ble_eq_true rfl⟩ rfl (Nat.le_of_ble_eq_true rfl) ?_
  refine j_ifb_ne (tgt := 30) dX3_game_24 (by decide) (fun c24 => ?_) (fun c24 => absurd hw c24)
  refine j_iload_n dX3_game_30 rfl ?_
  refine j_if_eq (tgt := 41) dX3_game_31 (by decide) (fun c31 => ?_) (fun c31 => ?_)
  · skip
    refine j_iload_n dX3_game_41 rfl ?_
    refine j_if_ne (tgt := 49) dX3_game_42 (by decide) (fun c42 => ?_) (fun c42 => ?_)
    · skip
      refine j_iconst (v := (-1)) dX3_game_49 (by decide) ?_
      refine j_iret dX3_game_50 rfl rfl (Nat.le_refl _) (Nat.le_refl _) ?_
      exact jr_i (if_neg c42).symm
    · skip
      refine j_iconst (v := 0) dX3_game_45 (by decide) ?_
      refine j_goto (tgt := 50) dX3_game_46 (by decide) ?_
      refine j_iret dX3_game_50 rfl rfl (Nat.le_refl _) (Nat.le_refl _) ?_
      exact jr_i (if_pos c42).symm
  · skip
    refine j_aload_n dX3_game_34 rfl ?_
    refine j_get 4 dX3_game_35 (by first | rfl | assumption) in_X3 rfl (by decide) q1103 rfl ?_
    refine j_if_ne (tgt := 51) dX3_game_38 (by decide) (fun c38 => ?_) (fun c38 => ?_)
    · skip
      have hz : False := by
        rcases hz with q | q
        · exact c31 (by rw [q]; rfl)
        · exact c38 (by rw [q]; rfl)
      exact hz.elim
    · skip
      refine j_iload_n dX3_game_41 rfl ?_
      refine j_if_ne (tgt := 49) dX3_game_42 (by decide) (fun c42 => ?_) (fun c42 => ?_)
      · skip
        refine j_iconst (v := (-1)) dX3_game_49 (by decide) ?_
        refine j_iret dX3_game_50 rfl rfl (Nat.le_refl _) (Nat.le_refl _) ?_
        exact jr_i (if_neg c42).symm
      · skip
        refine j_iconst (v := 0) dX3_game_45 (by decide) ?_
        refine j_goto (tgt := 50) dX3_game_46 (by decide) ?_
        refine j_iret dX3_game_50 rfl rfl (Nat.le_refl _) (Nat.le_refl _) ?_
        exact jr_i (if_pos c42).symm
