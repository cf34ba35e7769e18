set_option maxRecDepth 100000
theorem wayV_lo {L : List BE} {v : Nat} {i : Int32} (h : i < 0) : wayV L v i = -1 := by
  unfold wayV
  cases bFst L v with
  | none => rfl
  | some e =>
    show (if _ then _ else _) = _
    exact if_neg (fun q => absurd q.1 (Int32.not_le.mpr h))
theorem wayV_in {m K : Nat} {L : List BE} {v : Nat} {i : Int32} (hm : m ≤ 100) (hO : bOK m K L) (h0 : ¬ i < 0) (h : i < bN L v) : ∃ e w, bFst L v = some e ∧ w < e.2.1 ∧ i = nI w ∧ wayV L v i = bWay L (e.2.1 - 1 - w) e := by
  have hmm := mm_le hm
  cases hq : bFst L v with
  | none =>
    rw [bN_none hq, Int32.lt_iff_toInt_lt, show (-1 : Int32).toInt = -1 by decide] at h
    rw [Int32.lt_iff_toInt_lt, show (0 : Int32).toInt = 0 by decide] at h0
    omega
  | some e =>
    have hd := hO.dist (bFst_mem hq).1
    rw [bN_eq hq] at h
    have h1 : 0 ≤ i ∧ i ≤ nI e.2.1 - 1 := by
      refine ⟨Int32.not_lt.mp h0, ?_⟩
      rw [Int32.lt_iff_toInt_lt] at h h0
      rw [nI_toInt (by omega)] at h
      rw [show (0 : Int32).toInt = 0 by decide] at h0
      rw [Int32.le_iff_toInt_le, show nI e.2.1 - 1 = nI (e.2.1 - 1) from pk_sub (b := 1) (by omega), nI_toInt (by omega)]
      omega
    obtain ⟨w, hw, rfl⟩ := in_nI (by omega) h1
    refine ⟨e, w, rfl, by omega, rfl, ?_⟩
    unfold wayV
    rw [hq]
    show (if _ then bWay L (e.2.1 - 1 - (nI w).toInt.toNat) e else _) = _
    rw [if_pos h1, nI_toInt (by omega)]
    rfl
theorem wayV_hi {m K : Nat} {L : List BE} {v : Nat} {i : Int32} (hm : m ≤ 100) (hO : bOK m K L) (h : ¬ i < bN L v) : wayV L v i = -1 := by
  have hmm := mm_le hm
  unfold wayV
  cases hq : bFst L v with
  | none => rfl
  | some e =>
    have hd := hO.dist (bFst_mem hq).1
    rw [bN_eq hq] at h
    refine if_neg (fun q => h ?_)
    have q0 := q.1
    have q1 := q.2
    rw [Int32.le_iff_toInt_le, show (0 : Int32).toInt = 0 by decide] at q0
    rw [Int32.lt_iff_toInt_lt, nI_toInt (by omega)]
    by_cases hz : e.2.1 = 0
    · rw [hz, show nI 0 - 1 = (-1 : Int32) by decide, Int32.le_iff_toInt_le, show (-1 : Int32).toInt = -1 by decide] at q1
      omega
    · rw [show nI e.2.1 - 1 = nI (e.2.1 - 1) from pk_sub (b := 1) (by omega), Int32.le_iff_toInt_le, nI_toInt (by omega)] at q1
      omega
set_option maxHeartbeats 4000000 in
theorem m_quick1 {l : Launch} {D : va_G} {dT : Nat → ClassId} {H0 : Heap} {r : Nat → Nat} {nx : Nat} {g : j_H} {kd bs fg m nk : Nat} {a : A4} {F : Nat → Nat} {tk : Int64} {V : Nat → Nat → Int32} (hD : okD kd bs m) (ha : okA m a) {ks : Nat → KY} (hks : mdKs (V 101) bs m nk ks) (hn8 : nk ≤ 8) (pp ee : Nat) (hpp : pp ≤ 999) (hee : ee ≤ 999) : MC (gG l D dT H0) yX3_quick cX3_quick 8 (some .int) 6 0 0 [.ref (r 100), .int (nI pp), .int (nI ee)] r (mdS r dT g (nI kd) bs fg m nk a.1 a.2.1 a.2.2.1 a.2.2.2 F tk V) nx (jq_m (oI (qkG (bN (bAll (fun k a => stk kd bs m (ks k) a) nk (8 * m * m) a)) pp ee m 0 none)) r dT g (nI kd) bs fg m nk a F tk V nx) := by
  have hm := hD.pos
  have hm2 := hD.le
  have hm3 : 2 ≤ m := by have := hD.2.1; have := hD.2.2.2.1; omega
  have hkd := hD.1
  refine MC.ofJ [some (.ref (r 100)), some (.int (nI pp)), some (.int (nI ee)), none, none, none, none, none] rfl (Nat.le_of_ble_eq_true rfl) (by decide) ?_
  refine j_iload_n dX3_quick_0 rfl ?_
  refine j_iconst (v := 0) dX3_quick_1 (by decide) ?_
  refine j_sipush (v := 999) dX3_quick_2 (by decide) ?_
  refine j_callSi (c_X3_in _ _ _) dX3_quick_5 pmX3_in q1228 q1229 rfl ⟨Nat.le_of_ble_eq_true rfl, Nat.le_of_ble_eq_true rfl⟩ ⟨Nat.le_of_ble_eq_true rfl, Nat.le_of_ble_eq_true rfl⟩ rfl (Nat.le_of_ble_eq_true rfl) ?_
  refine j_ifb_eq (tgt := 22) dX3_quick_8 (by decide) (fun c8 => absurd ⟨nI_pos' (by omega), nI_le (b := 999) hpp (by decide)⟩ c8) (fun c8 => ?_)
  refine j_iload_n dX3_quick_11 rfl ?_
  refine j_iconst (v := 0) dX3_quick_12 (by decide) ?_
  refine j_sipush (v := 999) dX3_quick_13 (by decide) ?_
  refine j_callSi (c_X3_in _ _ _) dX3_quick_16 pmX3_in q1228 q1229 rfl ⟨Nat.le_of_ble_eq_true rfl, Nat.le_of_ble_eq_true rfl⟩ ⟨Nat.le_of_ble_eq_true rfl, Nat.le_of_ble_eq_true rfl⟩ rfl (Nat.le_of_ble_eq_true rfl) ?_
  refine j_ifb_ne (tgt := 25) dX3_quick_19 (by decide) (fun c19 => ?_) (fun c19 => absurd ⟨nI_pos' (by omega), nI_le (b := 999) hee (by decide)⟩ c19)
  refine j_aload_n dX3_quick_25 rfl ?_
  refine j_aload_n dX3_quick_26 rfl ?_
  refine j_get 4 dX3_quick_27 (by first | rfl | assumption) in_X3 rfl (by decide) q1103 rfl ?_
  refine j_callV (m_layFewest hD ha hks.w (by omega)) q_lay.isR dX3_quick_30 pmX3_layFewest q1340 q1342 qs42 (by first | rfl | assumption) rfl rfl rfl ⟨Nat.le_of_ble_eq_true rfl, Nat.le_of_ble_eq_true rfl⟩ ⟨Nat.le_of_ble_eq_true rfl, Nat.le_of_ble_eq_true rfl⟩ rfl (Nat.le_of_ble_eq_true rfl) ?_
  rintro v9 r h9 nx ⟨e9, rfl, rfl, fr, ln, by', fw, fs, rfl, hR, hO⟩
  cases e9
  generalize hLF : (bAll (fun k a => stk kd bs m (ks k) a) nk (8 * m * m) a) = LF at hR hO ⊢
  refine j_iconst (v := (-1)) dX3_quick_33 (by decide) ?_
  refine j_istore_n dX3_quick_34 (by decide) rfl ?_
  refine j_iconst (v := 0) dX3_quick_35 (by decide) ?_
  refine j_istore dX3_quick_36 (by decide) rfl ?_
  refine j_less (L' := [some (.ref (r 100)), some (.int (nI pp)), some (.int (nI ee)), some (.int (oI none)), some (.int (nI 0)), none, none, none]) ⟨Or.inr rfl, Or.inr rfl, Or.inr rfl, Or.inr rfl, Or.inr rfl, Or.inl rfl, Or.inl rfl, Or.inl rfl, trivial⟩ ?_
  refine j_lp2 (fun (v : Nat) (b : Option Nat) => (mdS r dT g (nI kd) bs fg m nk a.1 a.2.1 a.2.2.1 a.2.2.2 F tk (vo V [(109, fr), (110, ln), (111, by'), (113, fw), (114, fs)]))) (fun v b => [some (.ref (r 100)), some (.int (nI pp)), some (.int (nI ee)), some (.int (oI b)), some (.int (nI v)), none, none, none]) (fun v b => v ≤ m ∧ (∀ w, b = some w → w < m) ∧ qkG (bN LF) pp ee (m - v) v b = qkG (bN LF) pp ee m 0 none) (fun v _ => m - v) ?_ 0 none ⟨Nat.zero_le _, (fun w hw => by cases hw), rfl⟩
  intro v b ⟨hv1, hb1, hqk⟩ ih
  have hb9 : ∀ w, b = some w → w < 100 := fun w hw => by have := hb1 w hw; omega
  refine j_iload dX3_quick_38 rfl ?_
  refine j_aload_n dX3_quick_40 rfl ?_
  refine j_get 3 dX3_quick_41 (by first | rfl | assumption) in_X3 rfl (by decide) q1102 rfl ?_
  refine j_icmp_ge (tgt := 177) dX3_quick_44 (by decide) (fun c44 => ?_) (fun c44 => ?_)
  · skip
    have hvm : v = m := by
      have := (nI_leI (by omega) (by omega)).mp c44
      omega
    subst hvm
    rw [Nat.sub_self, qkG] at hqk
    refine j_iload_n dX3_quick_177 rfl ?_
    refine j_iret dX3_quick_178 rfl rfl (Nat.le_refl _) (Nat.le_refl _) ?_
    exact jm_i (by rw [← hqk]) vo5_ms
  · skip
    have hvm : v < m := Nat.lt_of_not_le (fun q => c44 (nI_le q (by omega)))
    rw [show m - v = (m - (v + 1)) + 1 by omega, qkG] at hqk
    have hav : absd v pp < 2000 := by unfold absd; split <;> omega
    refine j_join (tgt := 64) (fun x => x = nI (absd v pp)) (fun v47 hv47 => ?_) (fun kj47 => ?_)
    · skip
      subst hv47
      refine j_istore dX3_quick_64 (by decide) rfl ?_
      refine j_join (tgt := 89) (fun x => ∀ w, b = some w → x = nI (absd w pp)) (fun v66 hv66 => ?_) (fun kj66 => ?_)
      · skip
        refine j_istore dX3_quick_89 (by decide) rfl ?_
        refine j_iload dX3_quick_91 rfl ?_
        refine j_iload_n dX3_quick_93 rfl ?_
        refine j_icmp_gt (tgt := 171) dX3_quick_94 (by decide) (fun c94 => ?_) (fun c94 => ?_)
        · skip
          have c94 : ¬ absd v pp ≤ ee := fun q => absurd c94 (nI_nlt q (by omega))
          have hq8 : qkS (bN LF) pp ee b v = b := qkS_f1 (fun z => c94 z.2)
          rw [hq8] at hqk
          have hq9 := hb1
          refine j_iinc dX3_quick_171 rfl (by decide) rfl ?_
          refine j_goto (tgt := 38) dX3_quick_174 (by decide) ?_
          refine j_less (L' := [some (.ref (r 100)), some (.int (nI pp)), some (.int (nI ee)), some (.int (oI b)), some (.int (nI (v + 1))), none, none, none]) ⟨Or.inr rfl, Or.inr rfl, Or.inr rfl, Or.inr rfl, Or.inr (by rw [← nI_inc]), Or.inl rfl, Or.inl rfl, Or.inl rfl, trivial⟩ ?_
          exact ih (v + 1) _ ⟨by omega, hq9, hqk⟩ (by omega)
        · skip
          have c94 : absd v pp ≤ ee := Nat.le_of_not_lt (fun q => c94 (nI_lt q (by omega)))
          refine j_aload_n dX3_quick_97 rfl ?_
          refine j_get 38 dX3_quick_98 (by first | rfl | assumption) in_X3 rfl (by decide) q1137 rfl ?_
          refine j_iload dX3_quick_101 rfl ?_
          refine j_iald 0 v dX3_quick_103 (by first | rfl | assumption) rfl rfl (by show v < 100; omega) (by decide) ?_
          refine j_eqi (hR.few hvm) ?_
          refine j_iconst (v := (-1)) dX3_quick_104 (by decide) ?_
          refine j_icmp_eq (tgt := 171) dX3_quick_105 (by decide) (fun c105 => ?_) (fun c105 => ?_)
          · skip
            have hq8 : qkS (bN LF) pp ee b v = b := qkS_f1 (fun z => z.1 c105)
            rw [hq8] at hqk
            have hq9 := hb1
            refine j_iinc dX3_quick_171 rfl (by decide) rfl ?_
            refine j_goto (tgt := 38) dX3_quick_174 (by decide) ?_
            refine j_less (L' := [some (.ref (r 100)), some (.int (nI pp)), some (.int (nI ee)), some (.int (oI b)), some (.int (nI (v + 1))), none, none, none]) ⟨Or.inr rfl, Or.inr rfl, Or.inr rfl, Or.inr rfl, Or.inr (by rw [← nI_inc]), Or.inl rfl, Or.inl rfl, Or.inl rfl, trivial⟩ ?_
            exact ih (v + 1) _ ⟨by omega, hq9, hqk⟩ (by omega)
          · skip
            refine j_join (tgt := 157) (fun x => (x = 0 → ¬ qkB (bN LF) pp b v) ∧ (¬ x = 0 → qkB (bN LF) pp b v)) (fun v108 hv108 => ?_) (fun kj108 => ?_)
            · skip
              refine j_istore dX3_quick_157 (by decide) rfl ?_
              refine j_join (tgt := 170) (fun x => x = oI (qkS (bN LF) pp ee b v)) (fun v159 hv159 => ?_) (fun kj159 => ?_)
              · skip
                subst hv159
                have hq9 : ∀ w, qkS (bN LF) pp ee b v = some w → w < m := fun w hw => by
                  unfold qkS at hw
                  split at hw
                  · cases hw; exact hvm
                  · exact hb1 w hw
                refine j_istore_n dX3_quick_170 (by decide) rfl ?_
                refine j_iinc dX3_quick_171 rfl (by decide) rfl ?_
                refine j_goto (tgt := 38) dX3_quick_174 (by decide) ?_
                refine j_less (L' := [some (.ref (r 100)), some (.int (nI pp)), some (.int (nI ee)), some (.int (oI (qkS (bN LF) pp ee b v))), some (.int (nI (v + 1))), none, none, none]) ⟨Or.inr rfl, Or.inr rfl, Or.inr rfl, Or.inr rfl, Or.inr (by rw [← nI_inc]), Or.inl rfl, Or.inl rfl, Or.inl rfl, trivial⟩ ?_
                exact ih (v + 1) _ ⟨by omega, hq9, hqk⟩ (by omega)
              · skip
                refine j_iload dX3_quick_159 rfl ?_
                refine j_if_eq (tgt := 169) dX3_quick_161 (by decide) (fun c161 => ?_) (fun c161 => ?_)
                · skip
                  have hj : oI b = oI (qkS (bN LF) pp ee b v) := congrArg oI (qkS_f2 (hv108.1 c161)).symm
                  refine j_iload_n dX3_quick_169 rfl ?_
                  exact kj159 _ hj
                · skip
                  have hj : nI v = oI (qkS (bN LF) pp ee b v) := congrArg oI (qkS_t ⟨c105, c94⟩ (hv108.2 c161)).symm
                  refine j_iload dX3_quick_164 rfl ?_
                  refine j_goto (tgt := 170) dX3_quick_166 (by decide) ?_
                  exact kj159 _ hj
            · skip
              refine j_iload_n dX3_quick_108 rfl ?_
              refine j_iconst (v := (-1)) dX3_quick_109 (by decide) ?_
              refine j_icmp_eq (tgt := 152) dX3_quick_110 (by decide) (fun c110 => ?_) (fun c110 => ?_)
              · skip
                have hbn : b = none := (oI_m1 hb9).mp c110
                have hj : ((1 : Int32) = 0 → ¬ qkB (bN LF) pp b v) ∧ (¬ (1 : Int32) = 0 → qkB (bN LF) pp b v) := pI_t rfl (by rw [hbn]; exact trivial)
                refine j_iconst (v := 1) dX3_quick_152 (by decide) ?_
                refine j_goto (tgt := 157) dX3_quick_153 (by decide) ?_
                exact kj108 _ hj
              · skip
                obtain ⟨w, hbn⟩ : ∃ w, b = some w := by
                  cases b with
                  | none => exact absurd rfl c110
                  | some w => exact ⟨w, rfl⟩
                have hw1 := hb1 w hbn
                have hwo : oI b = nI w := by rw [hbn]; rfl
                have haw : absd w pp < 2000 := by unfold absd; split <;> omega
                have hhad := hv66 w hbn
                refine j_aload_n dX3_quick_113 rfl ?_
                refine j_get 38 dX3_quick_114 (by first | rfl | assumption) in_X3 rfl (by decide) q1137 rfl ?_
                refine j_iload dX3_quick_117 rfl ?_
                refine j_iald 0 v dX3_quick_119 (by first | rfl | assumption) rfl rfl (by show v < 100; omega) (by decide) ?_
                refine j_eqi (hR.few hvm) ?_
                refine j_aload_n dX3_quick_120 rfl ?_
                refine j_get 38 dX3_quick_121 (by first | rfl | assumption) in_X3 rfl (by decide) q1137 rfl ?_
                refine j_iload_n dX3_quick_124 rfl ?_
                refine j_eqi hwo ?_
                refine j_iald 0 w dX3_quick_125 (by first | rfl | assumption) rfl rfl (by show w < 100; omega) (by decide) ?_
                refine j_eqi (hR.few hw1) ?_
                refine j_icmp_lt (tgt := 152) dX3_quick_126 (by decide) (fun c126 => ?_) (fun c126 => ?_)
                · skip
                  have hj : ((1 : Int32) = 0 → ¬ qkB (bN LF) pp b v) ∧ (¬ (1 : Int32) = 0 → qkB (bN LF) pp b v) := pI_t rfl (by rw [hbn]; exact qk_l c126)
                  refine j_iconst (v := 1) dX3_quick_152 (by decide) ?_
                  refine j_goto (tgt := 157) dX3_quick_153 (by decide) ?_
                  exact kj108 _ hj
                · skip
                  refine j_aload_n dX3_quick_129 rfl ?_
                  refine j_get 38 dX3_quick_130 (by first | rfl | assumption) in_X3 rfl (by decide) q1137 rfl ?_
                  refine j_iload dX3_quick_133 rfl ?_
                  refine j_iald 0 v dX3_quick_135 (by first | rfl | assumption) rfl rfl (by show v < 100; omega) (by decide) ?_
                  refine j_eqi (hR.few hvm) ?_
                  refine j_aload_n dX3_quick_136 rfl ?_
                  refine j_get 38 dX3_quick_137 (by first | rfl | assumption) in_X3 rfl (by decide) q1137 rfl ?_
                  refine j_iload_n dX3_quick_140 rfl ?_
                  refine j_eqi hwo ?_
                  refine j_iald 0 w dX3_quick_141 (by first | rfl | assumption) rfl rfl (by show w < 100; omega) (by decide) ?_
                  refine j_eqi (hR.few hw1) ?_
                  refine j_icmp_ne (tgt := 156) dX3_quick_142 (by decide) (fun c142 => ?_) (fun c142 => ?_)
                  · skip
                    have hj : ((0 : Int32) = 0 → ¬ qkB (bN LF) pp b v) ∧ (¬ (0 : Int32) = 0 → qkB (bN LF) pp b v) := pI_f rfl (by rw [hbn]; exact fr_n1 c126 c142)
                    refine j_iconst (v := 0) dX3_quick_156 (by decide) ?_
                    exact kj108 _ hj
                  · skip
                    refine j_iload dX3_quick_145 rfl ?_
                    refine j_iload dX3_quick_147 rfl ?_
                    refine j_eqi hhad ?_
                    refine j_icmp_ge (tgt := 156) dX3_quick_149 (by decide) (fun c149 => ?_) (fun c149 => ?_)
                    · skip
                      have c149 : ¬ absd v pp < absd w pp := by
                        have := (nI_leI (by omega) (by omega)).mp c149
                        omega
                      have hj : ((0 : Int32) = 0 → ¬ qkB (bN LF) pp b v) ∧ (¬ (0 : Int32) = 0 → qkB (bN LF) pp b v) := pI_f rfl (by rw [hbn]; exact fr_n2 c126 c149)
                      refine j_iconst (v := 0) dX3_quick_156 (by decide) ?_
                      exact kj108 _ hj
                    · skip
                      have c149 : absd v pp < absd w pp := Nat.lt_of_not_le (fun q => c149 (nI_le q (by omega)))
                      have hj : ((1 : Int32) = 0 → ¬ qkB (bN LF) pp b v) ∧ (¬ (1 : Int32) = 0 → qkB (bN LF) pp b v) := pI_t rfl (by rw [hbn]; exact qk_e c142 c149)
                      refine j_iconst (v := 1) dX3_quick_152 (by decide) ?_
                      refine j_goto (tgt := 157) dX3_quick_153 (by decide) ?_
                      exact kj108 _ hj
      · skip
        refine j_iload_n dX3_quick_66 rfl ?_
        refine j_iconst (v := (-1)) dX3_quick_67 (by decide) ?_
        refine j_icmp_ne (tgt := 75) dX3_quick_68 (by decide) (fun c68 => ?_) (fun c68 => ?_)
        · skip
          obtain ⟨w, hbn⟩ : ∃ w, b = some w := by
            cases b with
            | none => exact absurd rfl c68
            | some w => exact ⟨w, rfl⟩
          have hw1 := hb1 w hbn
          have hwo : oI b = nI w := by rw [hbn]; rfl
          have haw : absd w pp < 2000 := by unfold absd; split <;> omega
          refine j_iload_n dX3_quick_75 rfl ?_
          refine j_eqi hwo ?_
          refine j_iload_n dX3_quick_76 rfl ?_
          refine j_icmp_ge (tgt := 86) dX3_quick_77 (by decide) (fun c77 => ?_) (fun c77 => ?_)
          · skip
            have h9 : pp ≤ w := (nI_leI (by omega) (by omega)).mp c77
            have hj : nI w - nI pp = nI (absd w pp) := by rw [show absd w pp = w - pp from if_pos h9, nI_sub h9]
            have hj : ∀ w1, b = some w1 → nI w - nI pp = nI (absd w1 pp) := fun w1 hw1 => by rw [Option.some.inj (hw1.symm.trans hbn)]; exact hj
            refine j_iload_n dX3_quick_86 rfl ?_
            refine j_eqi hwo ?_
            refine j_iload_n dX3_quick_87 rfl ?_
            refine j_isub dX3_quick_88 ?_
            exact kj66 _ hj
          · skip
            have h9 : ¬ pp ≤ w := fun q => c77 (nI_le q (by omega))
            have hj : nI pp - nI w = nI (absd w pp) := by rw [show absd w pp = pp - w from if_neg h9, nI_sub (by omega)]
            have hj : ∀ w1, b = some w1 → nI pp - nI w = nI (absd w1 pp) := fun w1 hw1 => by rw [Option.some.inj (hw1.symm.trans hbn)]; exact hj
            refine j_iload_n dX3_quick_80 rfl ?_
            refine j_iload_n dX3_quick_81 rfl ?_
            refine j_eqi hwo ?_
            refine j_isub dX3_quick_82 ?_
            refine j_goto (tgt := 89) dX3_quick_83 (by decide) ?_
            exact kj66 _ hj
        · skip
          have hj : ∀ w, b = some w → (0 : Int32) = nI (absd w pp) := fun w hw => by
            rw [(oI_m1 hb9).mp c68] at hw; cases hw
          refine j_iconst (v := 0) dX3_quick_71 (by decide) ?_
          refine j_goto (tgt := 89) dX3_quick_72 (by decide) ?_
          exact kj66 _ hj
    · skip
      refine j_iload dX3_quick_47 rfl ?_
      refine j_iload_n dX3_quick_49 rfl ?_
      refine j_icmp_ge (tgt := 60) dX3_quick_50 (by decide) (fun c50 => ?_) (fun c50 => ?_)
      · skip
        have h9 : pp ≤ v := (nI_leI (by omega) (by omega)).mp c50
        have hj : nI v - nI pp = nI (absd v pp) := by rw [show absd v pp = v - pp from if_pos h9, nI_sub h9]
        refine j_iload dX3_quick_60 rfl ?_
        refine j_iload_n dX3_quick_62 rfl ?_
        refine j_isub dX3_quick_63 ?_
        exact kj47 _ hj
      · skip
        have h9 : ¬ pp ≤ v := fun q => c50 (nI_le q (by omega))
        have hj : nI pp - nI v = nI (absd v pp) := by rw [show absd v pp = pp - v from if_neg h9, nI_sub (by omega)]
        refine j_iload_n dX3_quick_53 rfl ?_
        refine j_iload dX3_quick_54 rfl ?_
        refine j_isub dX3_quick_56 ?_
        refine j_goto (tgt := 64) dX3_quick_57 (by decide) ?_
        exact kj47 _ hj
set_option maxHeartbeats 4000000 in
theorem m_way1 {l : Launch} {D : va_G} {dT : Nat → ClassId} {H0 : Heap} {r : Nat → Nat} {nx : Nat} {g : j_H} {kd bs fg m nk : Nat} {a : A4} {F : Nat → Nat} {tk : Int64} {V : Nat → Nat → Int32} (hD : okD kd bs m) (ha : okA m a) {ks : Nat → KY} (hks : mdKs (V 101) bs m nk ks) (hn8 : nk ≤ 8) (v : Nat) (hv : v < m) (i : Int32) : MC (gG l D dT H0) yX3_way cX3_way 4 (some .int) 6 0 0 [.ref (r 100), .int (nI v), .int i] r (mdS r dT g (nI kd) bs fg m nk a.1 a.2.1 a.2.2.1 a.2.2.2 F tk V) nx (jq_m (wayV (bAll (fun k a => stk kd bs m (ks k) a) nk (8 * m * m) a) v i) r dT g (nI kd) bs fg m nk a F tk V nx) := by
  have hm := hD.pos
  have hm2 := hD.le
  have hm3 : 2 ≤ m := by have := hD.2.1; have := hD.2.2.2.1; omega
  have hkd := hD.1
  have hmm := mm_le hm2
  refine MC.ofJ [some (.ref (r 100)), some (.int (nI v)), some (.int i), none] rfl (Nat.le_of_ble_eq_true rfl) (by decide) ?_
  refine j_aload_n dX3_way_0 rfl ?_
  refine j_iload_n dX3_way_1 rfl ?_
  refine j_callVi (m_isNumber _) dX3_way_2 pmX3_isNumber q1336 q1338 qs41 (by first | rfl | assumption) rfl rfl rfl ⟨Nat.le_of_ble_eq_true rfl, Nat.le_of_ble_eq_true rfl⟩ ⟨Nat.le_of_ble_eq_true rfl, Nat.le_of_ble_eq_true rfl⟩ rfl (Nat.le_of_ble_eq_true rfl) ?_
  refine j_ifb_ne (tgt := 11) dX3_way_5 (by decide) (fun c5 => ?_) (fun c5 => absurd (nI_inr hv (by omega)) c5)
  refine j_aload_n dX3_way_11 rfl ?_
  refine j_aload_n dX3_way_12 rfl ?_
  refine j_get 4 dX3_way_13 (by first | rfl | assumption) in_X3 rfl (by decide) q1103 rfl ?_
  refine j_callV (m_layFewest hD ha hks.w (by omega)) q_lay.isR dX3_way_16 pmX3_layFewest q1340 q1342 qs42 (by first | rfl | assumption) rfl rfl rfl ⟨Nat.le_of_ble_eq_true rfl, Nat.le_of_ble_eq_true rfl⟩ ⟨Nat.le_of_ble_eq_true rfl, Nat.le_of_ble_eq_true rfl⟩ rfl (Nat.le_of_ble_eq_true rfl) ?_
  rintro v9 r h9 nx ⟨e9, rfl, rfl, fr, ln, by', fw, fs, rfl, hR, hO⟩
  cases e9
  generalize hLF : (bAll (fun k a => stk kd bs m (ks k) a) nk (8 * m * m) a) = LF at hR hO ⊢
  refine j_iload_n dX3_way_19 rfl ?_
  refine j_if_lt (tgt := 33) dX3_way_20 (by decide) (fun c20 => ?_) (fun c20 => ?_)
  · skip
    have hwv : wayV LF v i = -1 := wayV_lo c20
    refine j_iconst (v := (-1)) dX3_way_33 (by decide) ?_
    refine j_iret dX3_way_34 rfl rfl (Nat.le_refl _) (Nat.le_refl _) ?_
    exact jm_i hwv.symm vo5_ms
  · skip
    refine j_iload_n dX3_way_23 rfl ?_
    refine j_aload_n dX3_way_24 rfl ?_
    refine j_get 38 dX3_way_25 (by first | rfl | assumption) in_X3 rfl (by decide) q1137 rfl ?_
    refine j_iload_n dX3_way_28 rfl ?_
    refine j_iald 0 v dX3_way_29 (by first | rfl | assumption) rfl rfl (by show v < 100; omega) (by decide) ?_
    refine j_eqi (hR.few hv) ?_
    refine j_icmp_lt (tgt := 35) dX3_way_30 (by decide) (fun c30 => ?_) (fun c30 => ?_)
    · skip
      obtain ⟨e, w, he, hw, rfl, hwv⟩ := wayV_in (m := m) (K := nk) hm2 hO c20 c30
      have hed := hO.dist (bFst_mem he).1
      have hfs := hR.2.2.2.2 v e hv (by rw [List.take_length]; exact he)
      refine j_aload_n dX3_way_35 rfl ?_
      refine j_get 39 dX3_way_36 (by first | rfl | assumption) in_X3 rfl (by decide) q1138 rfl ?_
      refine j_iload_n dX3_way_39 rfl ?_
      refine j_iald 0 v dX3_way_40 (by first | rfl | assumption) rfl rfl (by show v < 100; omega) (by decide) ?_
      refine j_eqi (show _ = nI (encM m e.1) from hfs) ?_
      refine j_istore_n dX3_way_41 (by decide) rfl ?_
      refine j_less (L' := [some (.ref (r 100)), some (.int (nI v)), some (.int (nI w)), some (.int (nI (encM m e.1)))]) ⟨Or.inr rfl, Or.inr rfl, Or.inr rfl, Or.inr rfl, trivial⟩ ?_
      refine j_lp2 (fun (k : Nat) (x : BE) => (mdS r dT g (nI kd) bs fg m nk a.1 a.2.1 a.2.2.1 a.2.2.2 F tk (vo V [(109, fr), (110, ln), (111, by'), (113, fw), (114, fs)]))) (fun k x => [some (.ref (r 100)), some (.int (nI v)), some (.int (nI w)), some (.int (nI (encM m x.1)))]) (fun k x => x ∈ LF ∧ x.2.1 = k + 1 ∧ w ≤ k ∧ bWay LF (k - w) x = bWay LF (e.2.1 - 1 - w) e) (fun k _ => k) ?_ (e.2.1 - 1) e ⟨(bFst_mem he).1, by omega, by omega, rfl⟩
      intro k x ⟨hxm, hxd, hwk, hbw⟩ ih
      have hxl := encM_lt (hO.2.1 x hxm)
      have hxd2 := hO.dist hxm
      obtain ⟨jx, qx, hjx, hqx, hup, hq1, hq2, hq3⟩ := bUp_eq hO hxm (by omega)
      have hql := encM_lt (hO.2.1 qx hqx)
      have hfx := (hR.1 (jx + 1) x hjx).2
      have hbx := hR.2.2.1 jx x hjx
      rw [← hq1] at hbx
      refine j_aload_n dX3_way_42 rfl ?_
      refine j_get 34 dX3_way_43 (by first | rfl | assumption) in_X3 rfl (by decide) q1133 rfl ?_
      refine j_iload_n dX3_way_46 rfl ?_
      refine j_iald 0 (encM m x.1) dX3_way_47 (by first | rfl | assumption) rfl rfl (by show encM m x.1 < 80000; omega) (by decide) ?_
      refine j_eqi (show _ = nI x.2.1 from hfx) ?_
      refine j_iload_n dX3_way_48 rfl ?_
      refine j_iconst (v := 1) dX3_way_49 (by decide) ?_
      refine j_iadd dX3_way_50 ?_
      refine j_eqi (show nI w + 1 = nI (w + 1) from nI_1 _) ?_
      refine j_icmp_le (tgt := 67) dX3_way_51 (by decide) (fun c51 => ?_) (fun c51 => ?_)
      · skip
        have hkw : k = w := by
          have := (nI_leI (by omega) (by omega)).mp c51
          omega
        subst hkw
        refine j_aload_n dX3_way_67 rfl ?_
        refine j_get 36 dX3_way_68 (by first | rfl | assumption) in_X3 rfl (by decide) q1135 rfl ?_
        refine j_iload_n dX3_way_71 rfl ?_
        refine j_iald 0 (encM m x.1) dX3_way_72 (by first | rfl | assumption) rfl rfl (by show encM m x.1 < 80000; omega) (by decide) ?_
        refine j_eqi hbx ?_
        refine j_ldc dX3_way_73 q1098 ?_
        refine j_idiv dX3_way_75 (by decide) ?_
        refine j_eqi (show _ = nI x.2.2.2 from (pk_div (d := 80000) (by omega) (by decide) (by decide)).trans (by rw [Nat.mul_add_div (by decide), Nat.div_eq_of_lt (by omega), Nat.add_zero])) ?_
        refine j_iret dX3_way_76 rfl rfl (Nat.le_refl _) (Nat.le_refl _) ?_
        refine jm_i ?_ vo5_ms
        rw [hwv, ← hbw, Nat.sub_self, bWay]
      · skip
        have hkw : w < k := Nat.lt_of_not_le (fun q => c51 (nI_le (by omega) (by omega)))
        refine j_aload_n dX3_way_54 rfl ?_
        refine j_get 36 dX3_way_55 (by first | rfl | assumption) in_X3 rfl (by decide) q1135 rfl ?_
        refine j_iload_n dX3_way_58 rfl ?_
        refine j_iald 0 (encM m x.1) dX3_way_59 (by first | rfl | assumption) rfl rfl (by show encM m x.1 < 80000; omega) (by decide) ?_
        refine j_eqi hbx ?_
        refine j_ldc dX3_way_60 q1098 ?_
        refine j_irem dX3_way_62 (by decide) ?_
        refine j_eqi (show _ = nI (encM m qx.1) from (pk_rem (d := 80000) (by omega) (by decide) (by decide)).trans (by rw [Nat.mul_add_mod, Nat.mod_eq_of_lt (by omega)])) ?_
        refine j_istore_n dX3_way_63 (by decide) rfl ?_
        refine j_goto (tgt := 42) dX3_way_64 (by decide) ?_
        refine ih (k - 1) qx ⟨hqx, by omega, by omega, ?_⟩ (by omega)
        rw [← hbw, show k - w = (k - 1 - w) + 1 by omega, bWay, hup]
    · skip
      have hwv : wayV LF v i = -1 := wayV_hi hm2 hO c30
      refine j_iconst (v := (-1)) dX3_way_33 (by decide) ?_
      refine j_iret dX3_way_34 rfl rfl (Nat.le_refl _) (Nat.le_refl _) ?_
      exact jm_i hwv.symm vo5_ms
