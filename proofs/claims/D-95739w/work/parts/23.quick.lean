set_option maxRecDepth 100000
def absd (a b : Nat) : Nat := if b ≤ a then a - b else b - a
theorem abs_nI {a b : Nat} (ha : a < 2 ^ 30) (hb : b < 2 ^ 30) : (if 0 ≤ nI a - nI b then nI a - nI b else 0 - (nI a - nI b)) = nI (absd a b) := by
  unfold absd
  by_cases h : b ≤ a
  · rw [if_pos h, pk_sub h, if_pos (nI_pos' (by omega))]
  · rw [if_neg h, neg_sub (by omega) hb, if_neg]
    · have e : (0 : Int32) - -nI (b - a) = nI (b - a) := by grind
      exact e
    · rw [Int32.le_iff_toInt_le, sb_negT (by omega), show (0 : Int32).toInt = 0 by decide]
      omega
def oI : Option Nat → Int32
  | none => -1
  | some b => nI b
def qkB (f : Nat → Int32) (q : Nat) (b : Option Nat) (v : Nat) : Prop := match b with
  | none => True
  | some w => f v < f w ∨ (f v = f w ∧ absd v q < absd w q)
noncomputable def qkS (f : Nat → Int32) (q e : Nat) (b : Option Nat) (v : Nat) : Option Nat := by
  classical exact if (f v ≠ -1 ∧ absd v q ≤ e) ∧ qkB f q b v then some v else b
noncomputable def qkG (f : Nat → Int32) (q e : Nat) : Nat → Nat → Option Nat → Option Nat
  | 0, _, b => b
  | n + 1, v, b => qkG f q e n (v + 1) (qkS f q e b v)
theorem qkS_t {f : Nat → Int32} {q e : Nat} {b : Option Nat} {v : Nat} (h1 : f v ≠ -1 ∧ absd v q ≤ e) (h2 : qkB f q b v) : qkS f q e b v = some v := by unfold qkS; exact if_pos ⟨h1, h2⟩
theorem qkS_f1 {f : Nat → Int32} {q e : Nat} {b : Option Nat} {v : Nat} (h1 : ¬ (f v ≠ -1 ∧ absd v q ≤ e)) : qkS f q e b v = b := by unfold qkS; exact if_neg (fun z => h1 z.1)
theorem qkS_f2 {f : Nat → Int32} {q e : Nat} {b : Option Nat} {v : Nat} (h2 : ¬ qkB f q b v) : qkS f q e b v = b := by unfold qkS; exact if_neg (fun z => h2 z.2)
theorem pI_t {c : Prop} {x : Int32} (h : x = 1) (hc : c) : (x = 0 → ¬ c) ∧ (¬ x = 0 → c) := ⟨fun z => absurd (h.symm.trans z) (by decide), fun _ => hc⟩
theorem pI_f {c : Prop} {x : Int32} (h : x = 0) (hc : ¬ c) : (x = 0 → ¬ c) ∧ (¬ x = 0 → c) := ⟨fun _ => hc, fun z => absurd h z⟩
theorem oI_m1 {b : Option Nat} (hb : ∀ w, b = some w → w < 100) : oI b = -1 ↔ b = none := by
  cases b with
  | none => exact ⟨fun _ => rfl, fun _ => rfl⟩
  | some w => exact ⟨fun q => absurd q (nI_m1 (by have := hb w rfl; omega)), fun q => by cases q⟩
theorem qk_l {f : Nat → Int32} {q : Nat} {v w : Nat} (h : f v < f w) : qkB f q (some w) v := Or.inl h
theorem qk_e {f : Nat → Int32} {q : Nat} {v w : Nat} (h : f v = f w) (h2 : absd v q < absd w q) : qkB f q (some w) v := Or.inr ⟨h, h2⟩
set_option maxHeartbeats 4000000 in
theorem f_quick1 {l : Launch} {D : va_G} {dT : Nat → ClassId} {H0 : Heap} {r : Nat → Nat} {nx : Nat} {g : j_H} {F : Nat → Nat} {V : Nat → Nat → Int32} {nk : Nat} (h60 : g 60 = some (rcell (.ref (r 61)) (r 62) nk)) {kd bs fg m : Nat} {ks : Nat → KY} (hK : fkK r dT g kd bs fg m nk ks) (pp ee : Nat) (hpp : pp ≤ 999) (hee : ee ≤ 999) (hs : F 0 < 8 * m * m) : MC (gG l D dT H0) yX0_quick cX0_quick 9 (some .int) 7 0 0 [.ref (r 0), .int (nI pp), .int (nI ee)] r (fkS r dT g F V) nx (jq_s (oI (qkG (bN (bAll (fun k a => stk kd bs m (ks k) a) nk (8 * m * m) (decA m (F 0)))) pp ee m 0 none)) r dT g F V nx) := by
  obtain ⟨h61, hD, hkn, ka, h62, hks⟩ := id hK
  have hm := hD.pos
  have hm2 := hD.le
  have hmm := mm_le hm2
  refine MC.ofJ [some (.ref (r 0)), some (.int (nI pp)), some (.int (nI ee)), none, none, none, none, none, none] rfl (Nat.le_of_ble_eq_true rfl) (by decide) ?_
  refine j_iload_n dX0_quick_0 rfl ?_
  refine j_iconst (v := 0) dX0_quick_1 (by decide) ?_
  refine j_sipush (v := 999) dX0_quick_2 (by decide) ?_
  refine j_callSi (c_X0_isIn _ _ _) dX0_quick_5 pmX0_isIn q220 q221 rfl ⟨Nat.le_of_ble_eq_true rfl, Nat.le_of_ble_eq_true rfl⟩ ⟨Nat.le_of_ble_eq_true rfl, Nat.le_of_ble_eq_true rfl⟩ rfl (Nat.le_of_ble_eq_true rfl) ?_
  refine j_ifb_eq (tgt := 22) dX0_quick_8 (by decide) (fun c8 => absurd ⟨nI_pos' (by omega), nI_le (b := 999) hpp (by decide)⟩ c8) (fun c8 => ?_)
  refine j_iload_n dX0_quick_11 rfl ?_
  refine j_iconst (v := 0) dX0_quick_12 (by decide) ?_
  refine j_sipush (v := 999) dX0_quick_13 (by decide) ?_
  refine j_callSi (c_X0_isIn _ _ _) dX0_quick_16 pmX0_isIn q220 q221 rfl ⟨Nat.le_of_ble_eq_true rfl, Nat.le_of_ble_eq_true rfl⟩ ⟨Nat.le_of_ble_eq_true rfl, Nat.le_of_ble_eq_true rfl⟩ rfl (Nat.le_of_ble_eq_true rfl) ?_
  refine j_ifb_ne (tgt := 25) dX0_quick_19 (by decide) (fun c19 => ?_) (fun c19 => absurd ⟨nI_pos' (by omega), nI_le (b := 999) hee (by decide)⟩ c19)
  refine j_aload_n dX0_quick_25 rfl ?_
  refine j_callVi (f_isNone1 h60) dX0_quick_26 pmX0_isNone q759 q761 qs13 (by first | rfl | assumption) rfl rfl rfl ⟨Nat.le_of_ble_eq_true rfl, Nat.le_of_ble_eq_true rfl⟩ ⟨Nat.le_of_ble_eq_true rfl, Nat.le_of_ble_eq_true rfl⟩ rfl (Nat.le_of_ble_eq_true rfl) ?_
  refine j_if_eq (tgt := 34) dX0_quick_29 (by decide) (fun c29 => ?_) (fun c29 => absurd rfl c29)
  refine j_aload_n dX0_quick_34 rfl ?_
  refine j_aload_n dX0_quick_35 rfl ?_
  refine j_get 1 dX0_quick_36 (by first | rfl | assumption) in_X0 rfl (by decide) q154 rfl ?_
  refine j_getN 0 dX0_quick_39 (by first | rfl | assumption) in_X2 rfl (by decide) (fun _ hs => hs.1 _ qn125) rfl ?_
  refine j_aload_n dX0_quick_42 rfl ?_
  refine j_get 0 dX0_quick_43 (by first | rfl | assumption) in_X0 rfl (by decide) q153 rfl ?_
  refine j_getN 2 dX0_quick_46 (by first | rfl | assumption) in_X1 rfl (by decide) (fun _ hs => hs.1 _ qn109) rfl ?_
  refine j_callV (f_spread h60 hK (F 0) hs) q_spread.isR dX0_quick_49 pmX0_spread q924 q926 qs18 (by first | rfl | assumption) rfl rfl rfl ⟨Nat.le_of_ble_eq_true rfl, Nat.le_of_ble_eq_true rfl⟩ ⟨Nat.le_of_ble_eq_true rfl, Nat.le_of_ble_eq_true rfl⟩ rfl (Nat.le_of_ble_eq_true rfl) ?_
  rintro v9 r h9 nx ⟨e9, rfl, rfl, st, rw', bf, bk, fs, rfl, hR, hO⟩
  cases e9
  generalize hLF : (bAll (fun k a => stk kd bs m (ks k) a) nk (8 * m * m) (decA m (F 0))) = LF at hR hO ⊢
  refine j_iconst (v := (-1)) dX0_quick_52 (by decide) ?_
  refine j_istore_n dX0_quick_53 (by decide) rfl ?_
  refine j_iconst (v := 0) dX0_quick_54 (by decide) ?_
  refine j_istore dX0_quick_55 (by decide) rfl ?_
  refine j_less (L' := [some (.ref (r 0)), some (.int (nI pp)), some (.int (nI ee)), some (.int (oI none)), some (.int (nI 0)), none, none, none, none]) ⟨Or.inr rfl, Or.inr rfl, Or.inr rfl, Or.inr rfl, Or.inr rfl, Or.inl rfl, Or.inl rfl, Or.inl rfl, Or.inl rfl, trivial⟩ ?_
  refine j_lp2 (fun (v : Nat) (b : Option Nat) => fkS r dT g F (vo V [(6, st), (7, rw'), (8, bf), (9, bk), (10, fs)])) (fun v b => [some (.ref (r 0)), some (.int (nI pp)), some (.int (nI ee)), some (.int (oI b)), some (.int (nI v)), none, none, none, none]) (fun v b => v ≤ m ∧ (∀ w, b = some w → w < m) ∧ qkG (bN LF) pp ee (m - v) v b = qkG (bN LF) pp ee m 0 none) (fun v _ => m - v) ?_ 0 none ⟨Nat.zero_le _, (fun w hw => by cases hw), rfl⟩
  intro v b ⟨hv1, hb1, hqk⟩ ih
  have hb9 : ∀ w, b = some w → w < 100 := fun w hw => by have := hb1 w hw; omega
  refine j_iload dX0_quick_57 rfl ?_
  refine j_aload_n dX0_quick_59 rfl ?_
  refine j_callVi (f_many1 h60 h61 hm hm2) dX0_quick_60 pmX0_many q755 q757 qs12 (by first | rfl | assumption) rfl rfl rfl ⟨Nat.le_of_ble_eq_true rfl, Nat.le_of_ble_eq_true rfl⟩ ⟨Nat.le_of_ble_eq_true rfl, Nat.le_of_ble_eq_true rfl⟩ rfl (Nat.le_of_ble_eq_true rfl) ?_
  refine j_icmp_ge (tgt := 168) dX0_quick_63 (by decide) (fun c63 => ?_) (fun c63 => ?_)
  · skip
    have hvm : v = m := by
      have := (nI_leI (by omega) (by omega)).mp c63
      omega
    subst hvm
    rw [Nat.sub_self, qkG] at hqk
    refine j_iload_n dX0_quick_168 rfl ?_
    refine j_iret dX0_quick_169 rfl rfl (Nat.le_refl _) (Nat.le_refl _) ?_
    exact js_i (by rw [← hqk]) vo5_sc
  · skip
    have hvm : v < m := Nat.lt_of_not_le (fun q => c63 (nI_le q (by omega)))
    rw [show m - v = (m - (v + 1)) + 1 by omega, qkG] at hqk
    have hav : absd v pp < 2000 := by unfold absd; split <;> omega
    refine j_iload dX0_quick_66 rfl ?_
    refine j_iload_n dX0_quick_68 rfl ?_
    refine j_isub dX0_quick_69 ?_
    refine j_abs dX0_quick_70 q1013 ⟨Nat.le_of_ble_eq_true rfl, Nat.le_of_ble_eq_true rfl, Nat.le_of_ble_eq_true rfl, Nat.le_of_ble_eq_true rfl⟩ ?_
    refine j_eqi (abs_nI (by omega) (by omega)) ?_
    refine j_istore dX0_quick_73 (by decide) rfl ?_
    refine j_aload_n dX0_quick_75 rfl ?_
    refine j_iload dX0_quick_76 rfl ?_
    refine j_callVi (f_fewestTo (V := vo V [(6, st), (7, rw'), (8, bf), (9, bk), (10, fs)]) hR hO hm2 v hvm) dX0_quick_78 pmX0_fewestTo q941 q943 qs19 (by first | rfl | assumption) rfl rfl rfl ⟨Nat.le_of_ble_eq_true rfl, Nat.le_of_ble_eq_true rfl⟩ ⟨Nat.le_of_ble_eq_true rfl, Nat.le_of_ble_eq_true rfl⟩ rfl (Nat.le_of_ble_eq_true rfl) ?_
    refine j_istore dX0_quick_81 (by decide) rfl ?_
    refine j_join (tgt := 100) (fun x => (x = 0 → ¬ (bN LF v ≠ -1 ∧ absd v pp ≤ ee)) ∧ (¬ x = 0 → (bN LF v ≠ -1 ∧ absd v pp ≤ ee))) (fun v83 hv83 => ?_) (fun kj83 => ?_)
    · skip
      refine j_istore dX0_quick_100 (by decide) rfl ?_
      refine j_join (tgt := 143) (fun x => (x = 0 → ¬ qkB (bN LF) pp b v) ∧ (¬ x = 0 → qkB (bN LF) pp b v)) (fun v102 hv102 => ?_) (fun kj102 => ?_)
      · skip
        refine j_istore dX0_quick_143 (by decide) rfl ?_
        refine j_join (tgt := 161) (fun x => x = oI (qkS (bN LF) pp ee b v)) (fun v145 hv145 => ?_) (fun kj145 => ?_)
        · skip
          refine j_istore_n dX0_quick_161 (by decide) rfl ?_
          refine j_iinc dX0_quick_162 rfl (by decide) rfl ?_
          refine j_goto (tgt := 57) dX0_quick_165 (by decide) ?_
          subst hv145
          refine j_less (L' := [some (.ref (r 0)), some (.int (nI pp)), some (.int (nI ee)), some (.int (oI (qkS (bN LF) pp ee b v))), some (.int (nI (v + 1))), none, none, none, none]) ⟨Or.inr rfl, Or.inr rfl, Or.inr rfl, Or.inr rfl, Or.inr (by rw [← nI_inc]), Or.inl rfl, Or.inl rfl, Or.inl rfl, Or.inl rfl, trivial⟩ ?_
          exact ih (v + 1) _ ⟨by omega, fun w hw => by
            unfold qkS at hw
            split at hw
            · cases hw; exact hvm
            · exact hb1 w hw, hqk⟩ (by omega)
        · skip
          refine j_iload dX0_quick_145 rfl ?_
          refine j_if_eq (tgt := 160) dX0_quick_147 (by decide) (fun c147 => ?_) (fun c147 => ?_)
          · skip
            refine j_iload_n dX0_quick_160 rfl ?_
            exact kj145 _ (by first | exact congrArg oI (qkS_t (hv83.2 c147) (hv102.2 c152)).symm | exact congrArg oI (qkS_f1 (hv83.1 c147)).symm | exact congrArg oI (qkS_f2 (hv102.1 c152)).symm)
          · skip
            refine j_iload dX0_quick_150 rfl ?_
            refine j_if_eq (tgt := 160) dX0_quick_152 (by decide) (fun c152 => ?_) (fun c152 => ?_)
            · skip
              refine j_iload_n dX0_quick_160 rfl ?_
              exact kj145 _ (by first | exact congrArg oI (qkS_t (hv83.2 c147) (hv102.2 c152)).symm | exact congrArg oI (qkS_f1 (hv83.1 c147)).symm | exact congrArg oI (qkS_f2 (hv102.1 c152)).symm)
            · skip
              refine j_iload dX0_quick_155 rfl ?_
              refine j_goto (tgt := 161) dX0_quick_157 (by decide) ?_
              exact kj145 _ (by first | exact congrArg oI (qkS_t (hv83.2 c147) (hv102.2 c152)).symm | exact congrArg oI (qkS_f1 (hv83.1 c147)).symm | exact congrArg oI (qkS_f2 (hv102.1 c152)).symm)
      · skip
        refine j_iload_n dX0_quick_102 rfl ?_
        refine j_iconst (v := (-1)) dX0_quick_103 (by decide) ?_
        refine j_icmp_eq (tgt := 138) dX0_quick_104 (by decide) (fun c104 => ?_) (fun c104 => ?_)
        · skip
          have hbn : b = none := (oI_m1 hb9).mp c104
          refine j_iconst (v := 1) dX0_quick_138 (by decide) ?_
          refine j_goto (tgt := 143) dX0_quick_139 (by decide) ?_
          exact kj102 _ (by first | exact pI_t rfl (by rw [hbn]; exact trivial) | exact pI_t rfl (by rw [hbn]; exact qk_l c114) | exact pI_t rfl (by rw [hbn]; exact qk_e c124 c135) | exact pI_f rfl (by rw [hbn]; exact fr_n1 c114 c124) | exact pI_f rfl (by rw [hbn]; exact fr_n2 c114 c135))
        · skip
          obtain ⟨w, hbn⟩ : ∃ w, b = some w := by
            cases b with
            | none => exact absurd rfl c104
            | some w => exact ⟨w, rfl⟩
          have hw1 := hb1 w hbn
          have hwo : oI b = nI w := by rw [hbn]; rfl
          have haw : absd w pp < 2000 := by unfold absd; split <;> omega
          refine j_iload dX0_quick_107 rfl ?_
          refine j_aload_n dX0_quick_109 rfl ?_
          refine j_iload_n dX0_quick_110 rfl ?_
          refine j_eqi hwo ?_
          refine j_callVi (f_fewestTo (V := vo V [(6, st), (7, rw'), (8, bf), (9, bk), (10, fs)]) hR hO hm2 w hw1) dX0_quick_111 pmX0_fewestTo q941 q943 qs19 (by first | rfl | assumption) rfl rfl rfl ⟨Nat.le_of_ble_eq_true rfl, Nat.le_of_ble_eq_true rfl⟩ ⟨Nat.le_of_ble_eq_true rfl, Nat.le_of_ble_eq_true rfl⟩ rfl (Nat.le_of_ble_eq_true rfl) ?_
          refine j_icmp_lt (tgt := 138) dX0_quick_114 (by decide) (fun c114 => ?_) (fun c114 => ?_)
          · skip
            refine j_iconst (v := 1) dX0_quick_138 (by decide) ?_
            refine j_goto (tgt := 143) dX0_quick_139 (by decide) ?_
            exact kj102 _ (by first | exact pI_t rfl (by rw [hbn]; exact trivial) | exact pI_t rfl (by rw [hbn]; exact qk_l c114) | exact pI_t rfl (by rw [hbn]; exact qk_e c124 c135) | exact pI_f rfl (by rw [hbn]; exact fr_n1 c114 c124) | exact pI_f rfl (by rw [hbn]; exact fr_n2 c114 c135))
          · skip
            refine j_iload dX0_quick_117 rfl ?_
            refine j_aload_n dX0_quick_119 rfl ?_
            refine j_iload_n dX0_quick_120 rfl ?_
            refine j_eqi hwo ?_
            refine j_callVi (f_fewestTo (V := vo V [(6, st), (7, rw'), (8, bf), (9, bk), (10, fs)]) hR hO hm2 w hw1) dX0_quick_121 pmX0_fewestTo q941 q943 qs19 (by first | rfl | assumption) rfl rfl rfl ⟨Nat.le_of_ble_eq_true rfl, Nat.le_of_ble_eq_true rfl⟩ ⟨Nat.le_of_ble_eq_true rfl, Nat.le_of_ble_eq_true rfl⟩ rfl (Nat.le_of_ble_eq_true rfl) ?_
            refine j_icmp_ne (tgt := 142) dX0_quick_124 (by decide) (fun c124 => ?_) (fun c124 => ?_)
            · skip
              refine j_iconst (v := 0) dX0_quick_142 (by decide) ?_
              exact kj102 _ (by first | exact pI_t rfl (by rw [hbn]; exact trivial) | exact pI_t rfl (by rw [hbn]; exact qk_l c114) | exact pI_t rfl (by rw [hbn]; exact qk_e c124 c135) | exact pI_f rfl (by rw [hbn]; exact fr_n1 c114 c124) | exact pI_f rfl (by rw [hbn]; exact fr_n2 c114 c135))
            · skip
              refine j_iload dX0_quick_127 rfl ?_
              refine j_iload_n dX0_quick_129 rfl ?_
              refine j_eqi hwo ?_
              refine j_iload_n dX0_quick_130 rfl ?_
              refine j_isub dX0_quick_131 ?_
              refine j_abs dX0_quick_132 q1013 ⟨Nat.le_of_ble_eq_true rfl, Nat.le_of_ble_eq_true rfl, Nat.le_of_ble_eq_true rfl, Nat.le_of_ble_eq_true rfl⟩ ?_
              refine j_eqi (abs_nI (by omega) (by omega)) ?_
              refine j_icmp_ge (tgt := 142) dX0_quick_135 (by decide) (fun c135 => ?_) (fun c135 => ?_)
              · skip
                have c135 : ¬ absd v pp < absd w pp := by
                  have := (nI_leI (by omega) (by omega)).mp c135
                  omega
                refine j_iconst (v := 0) dX0_quick_142 (by decide) ?_
                exact kj102 _ (by first | exact pI_t rfl (by rw [hbn]; exact trivial) | exact pI_t rfl (by rw [hbn]; exact qk_l c114) | exact pI_t rfl (by rw [hbn]; exact qk_e c124 c135) | exact pI_f rfl (by rw [hbn]; exact fr_n1 c114 c124) | exact pI_f rfl (by rw [hbn]; exact fr_n2 c114 c135))
              · skip
                have c135 : absd v pp < absd w pp := Nat.lt_of_not_le (fun q => c135 (nI_le q (by omega)))
                refine j_iconst (v := 1) dX0_quick_138 (by decide) ?_
                refine j_goto (tgt := 143) dX0_quick_139 (by decide) ?_
                exact kj102 _ (by first | exact pI_t rfl (by rw [hbn]; exact trivial) | exact pI_t rfl (by rw [hbn]; exact qk_l c114) | exact pI_t rfl (by rw [hbn]; exact qk_e c124 c135) | exact pI_f rfl (by rw [hbn]; exact fr_n1 c114 c124) | exact pI_f rfl (by rw [hbn]; exact fr_n2 c114 c135))
    · skip
      refine j_iload dX0_quick_83 rfl ?_
      refine j_iconst (v := (-1)) dX0_quick_85 (by decide) ?_
      refine j_icmp_eq (tgt := 99) dX0_quick_86 (by decide) (fun c86 => ?_) (fun c86 => ?_)
      · skip
        refine j_iconst (v := 0) dX0_quick_99 (by decide) ?_
        exact kj83 _ (by first | exact pI_t rfl ⟨c86, c92⟩ | exact pI_f rfl (fun z => z.1 c86) | exact pI_f rfl (fun z => c92 z.2))
      · skip
        refine j_iload dX0_quick_89 rfl ?_
        refine j_iload_n dX0_quick_91 rfl ?_
        refine j_icmp_gt (tgt := 99) dX0_quick_92 (by decide) (fun c92 => ?_) (fun c92 => ?_)
        · skip
          have c92 : ¬ absd v pp ≤ ee := fun q => absurd c92 (nI_nlt q (by omega))
          refine j_iconst (v := 0) dX0_quick_99 (by decide) ?_
          exact kj83 _ (by first | exact pI_t rfl ⟨c86, c92⟩ | exact pI_f rfl (fun z => z.1 c86) | exact pI_f rfl (fun z => c92 z.2))
        · skip
          have c92 : absd v pp ≤ ee := Nat.le_of_not_lt (fun q => c92 (nI_lt q (by omega)))
          refine j_iconst (v := 1) dX0_quick_95 (by decide) ?_
          refine j_goto (tgt := 100) dX0_quick_96 (by decide) ?_
          exact kj83 _ (by first | exact pI_t rfl ⟨c86, c92⟩ | exact pI_f rfl (fun z => z.1 c86) | exact pI_f rfl (fun z => c92 z.2))
set_option maxHeartbeats 4000000 in
theorem f_quicko1 {l : Launch} {D : va_G} {dT : Nat → ClassId} {H0 : Heap} {r : Nat → Nat} {nx : Nat} {g : j_H} {F : Nat → Nat} {V : Nat → Nat → Int32} (a b : Int32) (ha : ¬ (0 ≤ a ∧ a ≤ 999)) : MC (gG l D dT H0) yX0_quick cX0_quick 9 (some .int) 7 0 0 [.ref (r 0), .int a, .int b] r (fkS r dT g F V) nx (jq_i (-1000000002) r (fkS r dT g F V) nx) := by
  refine MC.ofJ [some (.ref (r 0)), some (.int a), some (.int b), none, none, none, none, none, none] rfl (Nat.le_of_ble_eq_true rfl) (by decide) ?_
  refine j_iload_n dX0_quick_0 rfl ?_
  refine j_iconst (v := 0) dX0_quick_1 (by decide) ?_
  refine j_sipush (v := 999) dX0_quick_2 (by decide) ?_
  refine j_callSi (c_X0_isIn _ _ _) dX0_quick_5 pmX0_isIn q220 q221 rfl ⟨Nat.le_of_ble_eq_true rfl, Nat.le_of_ble_eq_true rfl⟩ ⟨Nat.le_of_ble_eq_true rfl, Nat.le_of_ble_eq_true rfl⟩ rfl (Nat.le_of_ble_eq_true rfl) ?_
  refine j_ifb_eq (tgt := 22) dX0_quick_8 (by decide) (fun c8 => ?_) (fun c8 => absurd c8 ha)
  refine j_ldc dX0_quick_22 q223 ?_
  refine j_iret dX0_quick_24 rfl rfl (Nat.le_refl _) (Nat.le_refl _) ?_
  exact jr_i rfl
set_option maxHeartbeats 4000000 in
theorem f_quicko2 {l : Launch} {D : va_G} {dT : Nat → ClassId} {H0 : Heap} {r : Nat → Nat} {nx : Nat} {g : j_H} {F : Nat → Nat} {V : Nat → Nat → Int32} (a b : Int32) (ha : 0 ≤ a ∧ a ≤ 999) (hb : ¬ (0 ≤ b ∧ b ≤ 999)) : MC (gG l D dT H0) yX0_quick cX0_quick 9 (some .int) 7 0 0 [.ref (r 0), .int a, .int b] r (fkS r dT g F V) nx (jq_i (-1000000002) r (fkS r dT g F V) nx) := by
  refine MC.ofJ [some (.ref (r 0)), some (.int a), some (.int b), none, none, none, none, none, none] rfl (Nat.le_of_ble_eq_true rfl) (by decide) ?_
  refine j_iload_n dX0_quick_0 rfl ?_
  refine j_iconst (v := 0) dX0_quick_1 (by decide) ?_
  refine j_sipush (v := 999) dX0_quick_2 (by decide) ?_
  refine j_callSi (c_X0_isIn _ _ _) dX0_quick_5 pmX0_isIn q220 q221 rfl ⟨Nat.le_of_ble_eq_true rfl, Nat.le_of_ble_eq_true rfl⟩ ⟨Nat.le_of_ble_eq_true rfl, Nat.le_of_ble_eq_true rfl⟩ rfl (Nat.le_of_ble_eq_true rfl) ?_
  refine j_ifb_eq (tgt := 22) dX0_quick_8 (by decide) (fun c8 => absurd ha c8) (fun c8 => ?_)
  refine j_iload_n dX0_quick_11 rfl ?_
  refine j_iconst (v := 0) dX0_quick_12 (by decide) ?_
  refine j_sipush (v := 999) dX0_quick_13 (by decide) ?_
  refine j_callSi (c_X0_isIn _ _ _) dX0_quick_16 pmX0_isIn q220 q221 rfl ⟨Nat.le_of_ble_eq_true rfl, Nat.le_of_ble_eq_true rfl⟩ ⟨Nat.le_of_ble_eq_true rfl, Nat.le_of_ble_eq_true rfl⟩ rfl (Nat.le_of_ble_eq_true rfl) ?_
  refine j_ifb_ne (tgt := 25) dX0_quick_19 (by decide) (fun c19 => absurd c19 hb) (fun c19 => ?_)
  refine j_ldc dX0_quick_22 q223 ?_
  refine j_iret dX0_quick_24 rfl rfl (Nat.le_refl _) (Nat.le_refl _) ?_
  exact jr_i rfl
set_option maxHeartbeats 4000000 in
theorem f_quick0 {l : Launch} {D : va_G} {dT : Nat → ClassId} {H0 : Heap} {r : Nat → Nat} {nx : Nat} {g : j_H} {F : Nat → Nat} {V : Nat → Nat → Int32} {c nk : Nat} (h60 : g 60 = some (rcell .null c nk)) (a b : Int32) (ha : 0 ≤ a ∧ a ≤ 999) (hb : 0 ≤ b ∧ b ≤ 999) : MC (gG l D dT H0) yX0_quick cX0_quick 9 (some .int) 7 0 0 [.ref (r 0), .int a, .int b] r (fkS r dT g F V) nx (jq_i (-1) r (fkS r dT g F V) nx) := by
  refine MC.ofJ [some (.ref (r 0)), some (.int a), some (.int b), none, none, none, none, none, none] rfl (Nat.le_of_ble_eq_true rfl) (by decide) ?_
  refine j_iload_n dX0_quick_0 rfl ?_
  refine j_iconst (v := 0) dX0_quick_1 (by decide) ?_
  refine j_sipush (v := 999) dX0_quick_2 (by decide) ?_
  refine j_callSi (c_X0_isIn _ _ _) dX0_quick_5 pmX0_isIn q220 q221 rfl ⟨Nat.le_of_ble_eq_true rfl, Nat.le_of_ble_eq_true rfl⟩ ⟨Nat.le_of_ble_eq_true rfl, Nat.le_of_ble_eq_true rfl⟩ rfl (Nat.le_of_ble_eq_true rfl) ?_
  refine j_ifb_eq (tgt := 22) dX0_quick_8 (by decide) (fun c8 => absurd ha c8) (fun c8 => ?_)
  refine j_iload_n dX0_quick_11 rfl ?_
  refine j_iconst (v := 0) dX0_quick_12 (by decide) ?_
  refine j_sipush (v := 999) dX0_quick_13 (by decide) ?_
  refine j_callSi (c_X0_isIn _ _ _) dX0_quick_16 pmX0_isIn q220 q221 rfl ⟨Nat.le_of_ble_eq_true rfl, Nat.le_of_ble_eq_true rfl⟩ ⟨Nat.le_of_ble_eq_true rfl, Nat.le_of_ble_eq_true rfl⟩ rfl (Nat.le_of_ble_eq_true rfl) ?_
  refine j_ifb_ne (tgt := 25) dX0_quick_19 (by decide) (fun c19 => ?_) (fun c19 => absurd hb c19)
  refine j_aload_n dX0_quick_25 rfl ?_
  refine j_callVi (f_isNone0 h60) dX0_quick_26 pmX0_isNone q759 q761 qs13 (by first | rfl | assumption) rfl rfl rfl ⟨Nat.le_of_ble_eq_true rfl, Nat.le_of_ble_eq_true rfl⟩ ⟨Nat.le_of_ble_eq_true rfl, Nat.le_of_ble_eq_true rfl⟩ rfl (Nat.le_of_ble_eq_true rfl) ?_
  refine j_if_eq (tgt := 34) dX0_quick_29 (by decide) (fun c29 => absurd c29 (by decide)) (fun c29 => ?_)
  refine j_iconst (v := (-1)) dX0_quick_32 (by decide) ?_
  refine j_iret dX0_quick_33 rfl rfl (Nat.le_refl _) (Nat.le_refl _) ?_
  exact jr_i rfl
