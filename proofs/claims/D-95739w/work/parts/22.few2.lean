set_option maxRecDepth 100000
/-- the i-th of the numbers that never come (none: how many) -/
def nvr (un : Nat → Bool) (i : Int32) : Nat → Nat → Nat → Int32
  | 0, _, n => if i = -1 then nI n else -1
  | k + 1, v, n => if un v = true then (if nI n = i then nI v else nvr un i k (v + 1) (n + 1)) else nvr un i k (v + 1) n
def bUn (L : List BE) (v : Nat) : Bool := (bFst L v).isNone
theorem bUn_iff {m K : Nat} {L : List BE} {st rw' bf bk fs : Nat → Int32} (hm : m ≤ 100) (hR : bRep m L st rw' bf bk fs) (hO : bOK m K L) {v : Nat} (hv : v < m) : fs v = -1 ↔ bUn L v = true := by
  rw [hR.2.2.2 v hv]
  unfold bFstC bUn
  cases h : bFst L v with
  | none => simp
  | some e =>
    have := bFstC_ne hm hO h
    simp [this]
set_option maxHeartbeats 4000000 in
theorem f_never1 {l : Launch} {D : va_G} {dT : Nat → ClassId} {H0 : Heap} {r : Nat → Nat} {nx : Nat} {g : j_H} {F : Nat → Nat} {V : Nat → Nat → Int32} {nk : Nat} (h60 : g 60 = some (rcell (.ref (r 61)) (r 62) nk)) {kd bs fg m : Nat} {ks : Nat → KY} (hK : fkK r dT g kd bs fg m nk ks) (i : Int32) (hs : F 0 < 8 * m * m) : MC (gG l D dT H0) yX0_never cX0_never 4 (some .int) 7 0 0 [.ref (r 0), .int i] r (fkS r dT g F V) nx (jq_s (nvr (bUn (bAll (fun k a => stk kd bs m (ks k) a) nk (8 * m * m) (decA m (F 0)))) i m 0 0) r dT g F V nx) := by
  obtain ⟨h61, hD, hkn, ka, h62, hks⟩ := id hK
  have hm := hD.pos
  have hm2 := hD.le
  have hmm := mm_le hm2
  refine MC.ofJ [some (.ref (r 0)), some (.int i), none, none] rfl (Nat.le_of_ble_eq_true rfl) (by decide) ?_
  refine j_aload_n dX0_never_0 rfl ?_
  refine j_callVi (f_isNone1 h60) dX0_never_1 pmX0_isNone q759 q761 qs13 (by first | rfl | assumption) rfl rfl rfl ⟨Nat.le_of_ble_eq_true rfl, Nat.le_of_ble_eq_true rfl⟩ ⟨Nat.le_of_ble_eq_true rfl, Nat.le_of_ble_eq_true rfl⟩ rfl (Nat.le_of_ble_eq_true rfl) ?_
  refine j_if_eq (tgt := 18) dX0_never_4 (by decide) (fun c4 => ?_) (fun c4 => absurd rfl c4)
  refine j_aload_n dX0_never_18 rfl ?_
  refine j_aload_n dX0_never_19 rfl ?_
  refine j_get 1 dX0_never_20 (by first | rfl | assumption) in_X0 rfl (by decide) q154 rfl ?_
  refine j_getN 0 dX0_never_23 (by first | rfl | assumption) in_X2 rfl (by decide) (fun _ hs => hs.1 _ qn125) rfl ?_
  refine j_aload_n dX0_never_26 rfl ?_
  refine j_get 0 dX0_never_27 (by first | rfl | assumption) in_X0 rfl (by decide) q153 rfl ?_
  refine j_getN 2 dX0_never_30 (by first | rfl | assumption) in_X1 rfl (by decide) (fun _ hs => hs.1 _ qn109) rfl ?_
  refine j_callV (f_spread h60 hK (F 0) hs) q_spread.isR dX0_never_33 pmX0_spread q924 q926 qs18 (by first | rfl | assumption) rfl rfl rfl ⟨Nat.le_of_ble_eq_true rfl, Nat.le_of_ble_eq_true rfl⟩ ⟨Nat.le_of_ble_eq_true rfl, Nat.le_of_ble_eq_true rfl⟩ rfl (Nat.le_of_ble_eq_true rfl) ?_
  rintro v9 r h9 nx ⟨e9, rfl, rfl, st, rw', bf, bk, fs, rfl, hR, hO⟩
  cases e9
  generalize hLF : (bAll (fun k a => stk kd bs m (ks k) a) nk (8 * m * m) (decA m (F 0))) = LF at hR hO ⊢
  refine j_iconst (v := 0) dX0_never_36 (by decide) ?_
  refine j_istore_n dX0_never_37 (by decide) rfl ?_
  refine j_iconst (v := 0) dX0_never_38 (by decide) ?_
  refine j_istore_n dX0_never_39 (by decide) rfl ?_
  refine j_re (L' := [some (.ref (r 0)), some (.int i), some (.int (nI 0)), some (.int (nI 0))]) rfl rfl rfl ?_
  refine j_lp2 (fun (v n : Nat) => fkS r dT g F (vo V [(6, st), (7, rw'), (8, bf), (9, bk), (10, fs)])) (fun v n => [some (.ref (r 0)), some (.int i), some (.int (nI n)), some (.int (nI v))]) (fun v n => v ≤ m ∧ n ≤ v ∧ nvr (bUn LF) i (m - v) v n = nvr (bUn LF) i m 0 0) (fun v _ => m - v) ?_ 0 0 ⟨Nat.zero_le _, Nat.le_refl _, rfl⟩
  intro v n ⟨hv1, hn1, hnv⟩ ih
  refine j_iload_n dX0_never_40 rfl ?_
  refine j_aload_n dX0_never_41 rfl ?_
  refine j_callVi (f_many1 h60 h61 hm hm2) dX0_never_42 pmX0_many q755 q757 qs12 (by first | rfl | assumption) rfl rfl rfl ⟨Nat.le_of_ble_eq_true rfl, Nat.le_of_ble_eq_true rfl⟩ ⟨Nat.le_of_ble_eq_true rfl, Nat.le_of_ble_eq_true rfl⟩ rfl (Nat.le_of_ble_eq_true rfl) ?_
  refine j_icmp_ge (tgt := 74) dX0_never_45 (by decide) (fun c45 => ?_) (fun c45 => ?_)
  · skip
    have hvm : v = m := by
      have := (nI_leI (by omega) (by omega)).mp c45
      omega
    subst hvm
    rw [Nat.sub_self, nvr] at hnv
    refine j_iload_n dX0_never_74 rfl ?_
    refine j_iconst (v := (-1)) dX0_never_75 (by decide) ?_
    refine j_icmp_ne (tgt := 83) dX0_never_76 (by decide) (fun c76 => ?_) (fun c76 => ?_)
    · skip
      refine j_iconst (v := (-1)) dX0_never_83 (by decide) ?_
      refine j_iret dX0_never_84 rfl rfl (Nat.le_refl _) (Nat.le_refl _) ?_
      refine js_i ?_ vo5_sc
      rw [← hnv]
      first | exact (if_pos c76).symm | exact (if_neg c76).symm
    · skip
      refine j_iload_n dX0_never_79 rfl ?_
      refine j_goto (tgt := 84) dX0_never_80 (by decide) ?_
      refine j_iret dX0_never_84 rfl rfl (Nat.le_refl _) (Nat.le_refl _) ?_
      refine js_i ?_ vo5_sc
      rw [← hnv]
      first | exact (if_pos c76).symm | exact (if_neg c76).symm
  · skip
    have hvm : v < m := Nat.lt_of_not_le (fun q => c45 (nI_le q (by omega)))
    rw [show m - v = (m - (v + 1)) + 1 by omega, nvr] at hnv
    refine j_aload_n dX0_never_48 rfl ?_
    refine j_get 12 dX0_never_49 (by first | rfl | assumption) in_X0 rfl (by decide) q165 rfl ?_
    refine j_iload_n dX0_never_52 rfl ?_
    refine j_iald 0 v dX0_never_53 (by first | rfl | assumption) rfl rfl (by show v < 100; omega) (by decide) ?_
    refine j_iconst (v := (-1)) dX0_never_54 (by decide) ?_
    refine j_icmp_ne (tgt := 68) dX0_never_55 (by decide) (fun c55 => ?_) (fun c55 => ?_)
    · skip
      have hun : ¬ bUn LF v = true := fun q => c55 ((bUn_iff hm2 hR hO hvm).mpr q)
      rw [if_neg hun] at hnv
      refine j_iinc dX0_never_68 rfl (by decide) rfl ?_
      refine j_goto (tgt := 40) dX0_never_71 (by decide) ?_
      exact j_re (by rw [nI_inc]; rfl) rfl rfl (ih (v + 1) n ⟨by omega, by omega, hnv⟩ (by omega))
    · skip
      have hun : bUn LF v = true := (bUn_iff hm2 hR hO hvm).mp c55
      rw [if_pos hun] at hnv
      refine j_iload_n dX0_never_58 rfl ?_
      refine j_iload_n dX0_never_59 rfl ?_
      refine j_icmp_ne (tgt := 65) dX0_never_60 (by decide) (fun c60 => ?_) (fun c60 => ?_)
      · skip
        rw [if_neg c60] at hnv
        refine j_iinc dX0_never_65 rfl (by decide) rfl ?_
        refine j_iinc dX0_never_68 rfl (by decide) rfl ?_
        refine j_goto (tgt := 40) dX0_never_71 (by decide) ?_
        exact j_re (by rw [nI_inc, nI_inc]; rfl) rfl rfl (ih (v + 1) (n + 1) ⟨by omega, by omega, hnv⟩ (by omega))
      · skip
        rw [if_pos c60] at hnv
        refine j_iload_n dX0_never_63 rfl ?_
        refine j_iret dX0_never_64 rfl rfl (Nat.le_refl _) (Nat.le_refl _) ?_
        exact js_i hnv vo5_sc
set_option maxHeartbeats 4000000 in
theorem f_never0 {l : Launch} {D : va_G} {dT : Nat → ClassId} {H0 : Heap} {r : Nat → Nat} {nx : Nat} {g : j_H} {F : Nat → Nat} {V : Nat → Nat → Int32} {a nk : Nat} (h60 : g 60 = some (rcell .null a nk)) (i : Int32) : MC (gG l D dT H0) yX0_never cX0_never 4 (some .int) 7 0 0 [.ref (r 0), .int i] r (fkS r dT g F V) nx (jq_i (if i = -1 then 0 else -1) r (fkS r dT g F V) nx) := by
  refine MC.ofJ [some (.ref (r 0)), some (.int i), none, none] rfl (Nat.le_of_ble_eq_true rfl) (by decide) ?_
  refine j_aload_n dX0_never_0 rfl ?_
  refine j_callVi (f_isNone0 h60) dX0_never_1 pmX0_isNone q759 q761 qs13 (by first | rfl | assumption) rfl rfl rfl ⟨Nat.le_of_ble_eq_true rfl, Nat.le_of_ble_eq_true rfl⟩ ⟨Nat.le_of_ble_eq_true rfl, Nat.le_of_ble_eq_true rfl⟩ rfl (Nat.le_of_ble_eq_true rfl) ?_
  refine j_if_eq (tgt := 18) dX0_never_4 (by decide) (fun c4 => absurd c4 (by decide)) (fun c4 => ?_)
  refine j_iload_n dX0_never_7 rfl ?_
  refine j_iconst (v := (-1)) dX0_never_8 (by decide) ?_
  refine j_icmp_ne (tgt := 16) dX0_never_9 (by decide) (fun c9 => ?_) (fun c9 => ?_)
  · skip
    refine j_iconst (v := (-1)) dX0_never_16 (by decide) ?_
    refine j_iret dX0_never_17 rfl rfl (Nat.le_refl _) (Nat.le_refl _) ?_
    refine jr_i ?_
    first | exact (if_pos c9).symm | exact (if_neg c9).symm
  · skip
    refine j_iconst (v := 0) dX0_never_12 (by decide) ?_
    refine j_goto (tgt := 17) dX0_never_13 (by decide) ?_
    refine j_iret dX0_never_17 rfl rfl (Nat.le_refl _) (Nat.le_refl _) ?_
    refine jr_i ?_
    first | exact (if_pos c9).symm | exact (if_neg c9).symm
theorem fr_n1 {a b c : Prop} (h1 : ¬ a) (h2 : ¬ b) : ¬ (a ∨ (b ∧ c)) := fun q => q.elim h1 (fun z => h2 z.1)
theorem fr_n2 {a b c : Prop} (h1 : ¬ a) (h2 : ¬ c) : ¬ (a ∨ (b ∧ c)) := fun q => q.elim h1 (fun z => h2 z.2)
def frG (f : Nat → Int32) : Nat → Nat → Nat → Nat
  | 0, _, b => b
  | n + 1, v, b => frG f n (v + 1) (if f b < f v ∨ (f v = f b ∧ v < b) then v else b)
set_option maxHeartbeats 4000000 in
theorem f_farthest1 {l : Launch} {D : va_G} {dT : Nat → ClassId} {H0 : Heap} {r : Nat → Nat} {nx : Nat} {g : j_H} {F : Nat → Nat} {V : Nat → Nat → Int32} {nk : Nat} (h60 : g 60 = some (rcell (.ref (r 61)) (r 62) nk)) {kd bs fg m : Nat} {ks : Nat → KY} (hK : fkK r dT g kd bs fg m nk ks) (w : Int32) (hw : 0 ≤ w ∧ w ≤ 1) (hs : F 0 < 8 * m * m) : MC (gG l D dT H0) yX0_farthest cX0_farthest 5 (some .int) 7 0 0 [.ref (r 0), .int w] r (fkS r dT g F V) nx (jq_s (if w = 0 then nI (frG (bN (bAll (fun k a => stk kd bs m (ks k) a) nk (8 * m * m) (decA m (F 0)))) m 0 (sS m (F 0))) else bN (bAll (fun k a => stk kd bs m (ks k) a) nk (8 * m * m) (decA m (F 0))) (frG (bN (bAll (fun k a => stk kd bs m (ks k) a) nk (8 * m * m) (decA m (F 0)))) m 0 (sS m (F 0)))) r dT g F V nx) := by
  obtain ⟨h61, hD, hkn, ka, h62, hks⟩ := id hK
  have hm := hD.pos
  have hm2 := hD.le
  have hmm := mm_le hm2
  refine MC.ofJ [some (.ref (r 0)), some (.int w), none, none, none] rfl (Nat.le_of_ble_eq_true rfl) (by decide) ?_
  refine j_iload_n dX0_farthest_0 rfl ?_
  refine j_iconst (v := 0) dX0_farthest_1 (by decide) ?_
  refine j_iconst (v := 1) dX0_farthest_2 (by decide) ?_
  refine j_callSi (c_X0_isIn _ _ _) dX0_farthest_3 pmX0_isIn q220 q221 rfl ⟨Nat.le_of_ble_eq_true rfl, Nat.le_of_ble_eq_true rfl⟩ ⟨Nat.le_of_ble_eq_true rfl, Nat.le_of_ble_eq_true rfl⟩ rfl (Nat.le_of_ble_eq_true rfl) ?_
  refine j_ifb_ne (tgt := 12) dX0_farthest_6 (by decide) (fun c6 => ?_) (fun c6 => absurd hw c6)
  refine j_aload_n dX0_farthest_12 rfl ?_
  refine j_callVi (f_isNone1 h60) dX0_farthest_13 pmX0_isNone q759 q761 qs13 (by first | rfl | assumption) rfl rfl rfl ⟨Nat.le_of_ble_eq_true rfl, Nat.le_of_ble_eq_true rfl⟩ ⟨Nat.le_of_ble_eq_true rfl, Nat.le_of_ble_eq_true rfl⟩ rfl (Nat.le_of_ble_eq_true rfl) ?_
  refine j_if_eq (tgt := 22) dX0_farthest_16 (by decide) (fun c16 => ?_) (fun c16 => absurd rfl c16)
  refine j_aload_n dX0_farthest_22 rfl ?_
  refine j_aload_n dX0_farthest_23 rfl ?_
  refine j_get 1 dX0_farthest_24 (by first | rfl | assumption) in_X0 rfl (by decide) q154 rfl ?_
  refine j_getN 0 dX0_farthest_27 (by first | rfl | assumption) in_X2 rfl (by decide) (fun _ hs => hs.1 _ qn125) rfl ?_
  refine j_aload_n dX0_farthest_30 rfl ?_
  refine j_get 0 dX0_farthest_31 (by first | rfl | assumption) in_X0 rfl (by decide) q153 rfl ?_
  refine j_getN 2 dX0_farthest_34 (by first | rfl | assumption) in_X1 rfl (by decide) (fun _ hs => hs.1 _ qn109) rfl ?_
  refine j_callV (f_spread h60 hK (F 0) hs) q_spread.isR dX0_farthest_37 pmX0_spread q924 q926 qs18 (by first | rfl | assumption) rfl rfl rfl ⟨Nat.le_of_ble_eq_true rfl, Nat.le_of_ble_eq_true rfl⟩ ⟨Nat.le_of_ble_eq_true rfl, Nat.le_of_ble_eq_true rfl⟩ rfl (Nat.le_of_ble_eq_true rfl) ?_
  rintro v9 r h9 nx ⟨e9, rfl, rfl, st, rw', bf, bk, fs, rfl, hR, hO⟩
  cases e9
  generalize hLF : (bAll (fun k a => stk kd bs m (ks k) a) nk (8 * m * m) (decA m (F 0))) = LF at hR hO ⊢
  refine j_aload_n dX0_farthest_40 rfl ?_
  refine j_aload_n dX0_farthest_41 rfl ?_
  refine j_get 1 dX0_farthest_42 (by first | rfl | assumption) in_X0 rfl (by decide) q154 rfl ?_
  refine j_getN 0 dX0_farthest_45 (by first | rfl | assumption) in_X2 rfl (by decide) (fun _ hs => hs.1 _ qn125) rfl ?_
  refine j_callVi (f_shown1 h60 h61 hm hm2 (F 0) (by omega)) dX0_farthest_48 pmX0_shown q771 q773 qs14 (by first | rfl | assumption) rfl rfl rfl ⟨Nat.le_of_ble_eq_true rfl, Nat.le_of_ble_eq_true rfl⟩ ⟨Nat.le_of_ble_eq_true rfl, Nat.le_of_ble_eq_true rfl⟩ rfl (Nat.le_of_ble_eq_true rfl) ?_
  refine j_istore_n dX0_farthest_51 (by decide) rfl ?_
  refine j_iconst (v := 0) dX0_farthest_52 (by decide) ?_
  refine j_istore_n dX0_farthest_53 (by decide) rfl ?_
  refine j_less (L' := [some (.ref (r 0)), some (.int w), some (.int (nI (sS m (F 0)))), some (.int (nI 0)), none]) ⟨Or.inr rfl, Or.inr rfl, Or.inr rfl, Or.inr rfl, Or.inl rfl, trivial⟩ ?_
  refine j_lp2 (fun (v b : Nat) => fkS r dT g F (vo V [(6, st), (7, rw'), (8, bf), (9, bk), (10, fs)])) (fun v b => [some (.ref (r 0)), some (.int w), some (.int (nI b)), some (.int (nI v)), none]) (fun v b => v ≤ m ∧ b < m ∧ frG (bN LF) (m - v) v b = frG (bN LF) m 0 (sS m (F 0))) (fun v _ => m - v) ?_ 0 (sS m (F 0)) ⟨Nat.zero_le _, Nat.mod_lt _ hm, rfl⟩
  intro v b ⟨hv1, hb1, hfr⟩ ih
  refine j_iload_n dX0_farthest_54 rfl ?_
  refine j_aload_n dX0_farthest_55 rfl ?_
  refine j_callVi (f_many1 h60 h61 hm hm2) dX0_farthest_56 pmX0_many q755 q757 qs12 (by first | rfl | assumption) rfl rfl rfl ⟨Nat.le_of_ble_eq_true rfl, Nat.le_of_ble_eq_true rfl⟩ ⟨Nat.le_of_ble_eq_true rfl, Nat.le_of_ble_eq_true rfl⟩ rfl (Nat.le_of_ble_eq_true rfl) ?_
  refine j_icmp_ge (tgt := 106) dX0_farthest_59 (by decide) (fun c59 => ?_) (fun c59 => ?_)
  · skip
    have hvm : v = m := by
      have := (nI_leI (by omega) (by omega)).mp c59
      omega
    subst hvm
    rw [Nat.sub_self, frG] at hfr
    rw [← hfr]
    refine j_iload_n dX0_farthest_106 rfl ?_
    refine j_if_ne (tgt := 114) dX0_farthest_107 (by decide) (fun c107 => ?_) (fun c107 => ?_)
    · skip
      refine j_aload_n dX0_farthest_114 rfl ?_
      refine j_iload_n dX0_farthest_115 rfl ?_
      refine j_callVi (f_fewestTo (V := vo V [(6, st), (7, rw'), (8, bf), (9, bk), (10, fs)]) hR hO hm2 b hb1) dX0_farthest_116 pmX0_fewestTo q941 q943 qs19 (by first | rfl | assumption) rfl rfl rfl ⟨Nat.le_of_ble_eq_true rfl, Nat.le_of_ble_eq_true rfl⟩ ⟨Nat.le_of_ble_eq_true rfl, Nat.le_of_ble_eq_true rfl⟩ rfl (Nat.le_of_ble_eq_true rfl) ?_
      refine j_iret dX0_farthest_119 rfl rfl (Nat.le_refl _) (Nat.le_refl _) ?_
      refine js_i ?_ vo5_sc
      first | exact (if_pos c107).symm | exact (if_neg c107).symm
    · skip
      refine j_iload_n dX0_farthest_110 rfl ?_
      refine j_goto (tgt := 119) dX0_farthest_111 (by decide) ?_
      refine j_iret dX0_farthest_119 rfl rfl (Nat.le_refl _) (Nat.le_refl _) ?_
      refine js_i ?_ vo5_sc
      first | exact (if_pos c107).symm | exact (if_neg c107).symm
  · skip
    have hvm : v < m := Nat.lt_of_not_le (fun q => c59 (nI_le q (by omega)))
    rw [show m - v = (m - (v + 1)) + 1 by omega, frG] at hfr
    refine j_aload_n dX0_farthest_62 rfl ?_
    refine j_iload_n dX0_farthest_63 rfl ?_
    refine j_callVi (f_fewestTo (V := vo V [(6, st), (7, rw'), (8, bf), (9, bk), (10, fs)]) hR hO hm2 v hvm) dX0_farthest_64 pmX0_fewestTo q941 q943 qs19 (by first | rfl | assumption) rfl rfl rfl ⟨Nat.le_of_ble_eq_true rfl, Nat.le_of_ble_eq_true rfl⟩ ⟨Nat.le_of_ble_eq_true rfl, Nat.le_of_ble_eq_true rfl⟩ rfl (Nat.le_of_ble_eq_true rfl) ?_
    refine j_istore dX0_farthest_67 (by decide) rfl ?_
    refine j_join (tgt := 99) (fun x => x = nI (if bN LF b < bN LF v ∨ (bN LF v = bN LF b ∧ v < b) then v else b)) (fun v69 hv69 => ?_) (fun kj69 => ?_)
    · skip
      refine j_istore_n dX0_farthest_99 (by decide) rfl ?_
      refine j_iinc dX0_farthest_100 rfl (by decide) rfl ?_
      refine j_goto (tgt := 54) dX0_farthest_103 (by decide) ?_
      subst hv69
      refine j_less (L' := [some (.ref (r 0)), some (.int w), some (.int (nI (if bN LF b < bN LF v ∨ (bN LF v = bN LF b ∧ v < b) then v else b))), some (.int (nI (v + 1))), none]) ⟨Or.inr rfl, Or.inr rfl, Or.inr rfl, Or.inr (by rw [← nI_inc]), Or.inl rfl, trivial⟩ ?_
      exact ih (v + 1) _ ⟨by omega, by split <;> omega, hfr⟩ (by omega)
    · skip
      refine j_iload dX0_farthest_69 rfl ?_
      refine j_aload_n dX0_farthest_71 rfl ?_
      refine j_iload_n dX0_farthest_72 rfl ?_
      refine j_callVi (f_fewestTo (V := vo V [(6, st), (7, rw'), (8, bf), (9, bk), (10, fs)]) hR hO hm2 b hb1) dX0_farthest_73 pmX0_fewestTo q941 q943 qs19 (by first | rfl | assumption) rfl rfl rfl ⟨Nat.le_of_ble_eq_true rfl, Nat.le_of_ble_eq_true rfl⟩ ⟨Nat.le_of_ble_eq_true rfl, Nat.le_of_ble_eq_true rfl⟩ rfl (Nat.le_of_ble_eq_true rfl) ?_
      refine j_icmp_gt (tgt := 94) dX0_farthest_76 (by decide) (fun c76 => ?_) (fun c76 => ?_)
      · skip
        refine j_iload_n dX0_farthest_94 rfl ?_
        refine j_goto (tgt := 99) dX0_farthest_95 (by decide) ?_
        exact kj69 _ (by first | exact congrArg nI (if_pos (Or.inl c76)).symm | exact congrArg nI (if_pos (Or.inr (And.intro c86 c91))).symm | exact congrArg nI (if_neg (fr_n1 c76 c86)).symm | exact congrArg nI (if_neg (fr_n2 c76 c91)).symm)
      · skip
        refine j_iload dX0_farthest_79 rfl ?_
        refine j_aload_n dX0_farthest_81 rfl ?_
        refine j_iload_n dX0_farthest_82 rfl ?_
        refine j_callVi (f_fewestTo (V := vo V [(6, st), (7, rw'), (8, bf), (9, bk), (10, fs)]) hR hO hm2 b hb1) dX0_farthest_83 pmX0_fewestTo q941 q943 qs19 (by first | rfl | assumption) rfl rfl rfl ⟨Nat.le_of_ble_eq_true rfl, Nat.le_of_ble_eq_true rfl⟩ ⟨Nat.le_of_ble_eq_true rfl, Nat.le_of_ble_eq_true rfl⟩ rfl (Nat.le_of_ble_eq_true rfl) ?_
        refine j_icmp_ne (tgt := 98) dX0_farthest_86 (by decide) (fun c86 => ?_) (fun c86 => ?_)
        · skip
          refine j_iload_n dX0_farthest_98 rfl ?_
          exact kj69 _ (by first | exact congrArg nI (if_pos (Or.inl c76)).symm | exact congrArg nI (if_pos (Or.inr (And.intro c86 c91))).symm | exact congrArg nI (if_neg (fr_n1 c76 c86)).symm | exact congrArg nI (if_neg (fr_n2 c76 c91)).symm)
        · skip
          refine j_iload_n dX0_farthest_89 rfl ?_
          refine j_iload_n dX0_farthest_90 rfl ?_
          refine j_icmp_ge (tgt := 98) dX0_farthest_91 (by decide) (fun c91 => ?_) (fun c91 => ?_)
          · skip
            have c91 : ¬ v < b := by
              have := (nI_leI (by omega) (by omega)).mp c91
              omega
            refine j_iload_n dX0_farthest_98 rfl ?_
            exact kj69 _ (by first | exact congrArg nI (if_pos (Or.inl c76)).symm | exact congrArg nI (if_pos (Or.inr (And.intro c86 c91))).symm | exact congrArg nI (if_neg (fr_n1 c76 c86)).symm | exact congrArg nI (if_neg (fr_n2 c76 c91)).symm)
          · skip
            have c91 : v < b := Nat.lt_of_not_le (fun q => c91 (nI_le q (by omega)))
            refine j_iload_n dX0_farthest_94 rfl ?_
            refine j_goto (tgt := 99) dX0_farthest_95 (by decide) ?_
            exact kj69 _ (by first | exact congrArg nI (if_pos (Or.inl c76)).symm | exact congrArg nI (if_pos (Or.inr (And.intro c86 c91))).symm | exact congrArg nI (if_neg (fr_n1 c76 c86)).symm | exact congrArg nI (if_neg (fr_n2 c76 c91)).symm)
set_option maxHeartbeats 4000000 in
theorem f_farthesto {l : Launch} {D : va_G} {dT : Nat → ClassId} {H0 : Heap} {r : Nat → Nat} {nx : Nat} {g : j_H} {F : Nat → Nat} {V : Nat → Nat → Int32} (w : Int32) (hw : ¬ (0 ≤ w ∧ w ≤ 1)) : MC (gG l D dT H0) yX0_farthest cX0_farthest 5 (some .int) 7 0 0 [.ref (r 0), .int w] r (fkS r dT g F V) nx (jq_i (-1000000002) r (fkS r dT g F V) nx) := by
  refine MC.ofJ [some (.ref (r 0)), some (.int w), none, none, none] rfl (Nat.le_of_ble_eq_true rfl) (by decide) ?_
  refine j_iload_n dX0_farthest_0 rfl ?_
  refine j_iconst (v := 0) dX0_farthest_1 (by decide) ?_
  refine j_iconst (v := 1) dX0_farthest_2 (by decide) ?_
  refine j_callSi (c_X0_isIn _ _ _) dX0_farthest_3 pmX0_isIn q220 q221 rfl ⟨Nat.le_of_ble_eq_true rfl, Nat.le_of_ble_eq_true rfl⟩ ⟨Nat.le_of_ble_eq_true rfl, Nat.le_of_ble_eq_true rfl⟩ rfl (Nat.le_of_ble_eq_true rfl) ?_
  refine j_ifb_ne (tgt := 12) dX0_farthest_6 (by decide) (fun c6 => absurd c6 hw) (fun c6 => ?_)
  refine j_ldc dX0_farthest_9 q223 ?_
  refine j_iret dX0_farthest_11 rfl rfl (Nat.le_refl _) (Nat.le_refl _) ?_
  exact jr_i rfl
set_option maxHeartbeats 4000000 in
theorem f_farthest0 {l : Launch} {D : va_G} {dT : Nat → ClassId} {H0 : Heap} {r : Nat → Nat} {nx : Nat} {g : j_H} {F : Nat → Nat} {V : Nat → Nat → Int32} {a nk : Nat} (h60 : g 60 = some (rcell .null a nk)) (w : Int32) (hw : 0 ≤ w ∧ w ≤ 1) : MC (gG l D dT H0) yX0_farthest cX0_farthest 5 (some .int) 7 0 0 [.ref (r 0), .int w] r (fkS r dT g F V) nx (jq_i (-1000000003) r (fkS r dT g F V) nx) := by
  refine MC.ofJ [some (.ref (r 0)), some (.int w), none, none, none] rfl (Nat.le_of_ble_eq_true rfl) (by decide) ?_
  refine j_iload_n dX0_farthest_0 rfl ?_
  refine j_iconst (v := 0) dX0_farthest_1 (by decide) ?_
  refine j_iconst (v := 1) dX0_farthest_2 (by decide) ?_
  refine j_callSi (c_X0_isIn _ _ _) dX0_farthest_3 pmX0_isIn q220 q221 rfl ⟨Nat.le_of_ble_eq_true rfl, Nat.le_of_ble_eq_true rfl⟩ ⟨Nat.le_of_ble_eq_true rfl, Nat.le_of_ble_eq_true rfl⟩ rfl (Nat.le_of_ble_eq_true rfl) ?_
  refine j_ifb_ne (tgt := 12) dX0_farthest_6 (by decide) (fun c6 => ?_) (fun c6 => absurd hw c6)
  refine j_aload_n dX0_farthest_12 rfl ?_
  refine j_callVi (f_isNone0 h60) dX0_farthest_13 pmX0_isNone q759 q761 qs13 (by first | rfl | assumption) rfl rfl rfl ⟨Nat.le_of_ble_eq_true rfl, Nat.le_of_ble_eq_true rfl⟩ ⟨Nat.le_of_ble_eq_true rfl, Nat.le_of_ble_eq_true rfl⟩ rfl (Nat.le_of_ble_eq_true rfl) ?_
  refine j_if_eq (tgt := 22) dX0_farthest_16 (by decide) (fun c16 => absurd c16 (by decide)) (fun c16 => ?_)
  refine j_ldc dX0_farthest_19 q970 ?_
  refine j_iret dX0_farthest_21 rfl rfl (Nat.le_refl _) (Nat.le_refl _) ?_
  exact jr_i rfl
def smT (f : Nat → Int32) (tg : Nat → Nat) : Nat → Int32
  | 0 => 0
  | n + 1 => smT f tg n + (if f (tg n) = -1 then 99 else f (tg n))
set_option maxHeartbeats 4000000 in
theorem f_sumWith {l : Launch} {D : va_G} {dT : Nat → ClassId} {H0 : Heap} {r : Nat → Nat} {nx : Nat} {g : j_H} {F : Nat → Nat} {V : Nat → Nat → Int32} {nk : Nat} (h60 : g 60 = some (rcell (.ref (r 61)) (r 62) nk)) {kd bs fg m K : Nat} {ks : Nat → KY} (hK : fkK r dT g kd bs fg m K ks) (tg : Nat → Nat) (htg : ∀ i, i < F 2 → V 2 i = nI (tg i) ∧ tg i < m) (hn6 : F 2 ≤ 6) (hs : F 0 < 8 * m * m) : MC (gG l D dT H0) yX0_sumWith cX0_sumWith 5 (some .int) 7 0 0 [.ref (r 0), .int (nI K)] r (fkS r dT g F V) nx (jq_s (smT (bN (bAll (fun k a => stk kd bs m (ks k) a) K (8 * m * m) (decA m (F 0)))) tg (F 2)) r dT g F V nx) := by
  obtain ⟨h61, hD, hkn, ka, h62, hks⟩ := id hK
  have hm := hD.pos
  have hm2 := hD.le
  have hmm := mm_le hm2
  refine MC.ofJ [some (.ref (r 0)), some (.int (nI K)), none, none, none] rfl (Nat.le_of_ble_eq_true rfl) (by decide) ?_
  refine j_aload_n dX0_sumWith_0 rfl ?_
  refine j_aload_n dX0_sumWith_1 rfl ?_
  refine j_get 1 dX0_sumWith_2 (by first | rfl | assumption) in_X0 rfl (by decide) q154 rfl ?_
  refine j_getN 0 dX0_sumWith_5 (by first | rfl | assumption) in_X2 rfl (by decide) (fun _ hs => hs.1 _ qn125) rfl ?_
  refine j_iload_n dX0_sumWith_8 rfl ?_
  refine j_callV (f_spread h60 hK (F 0) hs) q_spread.isR dX0_sumWith_9 pmX0_spread q924 q926 qs18 (by first | rfl | assumption) rfl rfl rfl ⟨Nat.le_of_ble_eq_true rfl, Nat.le_of_ble_eq_true rfl⟩ ⟨Nat.le_of_ble_eq_true rfl, Nat.le_of_ble_eq_true rfl⟩ rfl (Nat.le_of_ble_eq_true rfl) ?_
  rintro v9 r h9 nx ⟨e9, rfl, rfl, st, rw', bf, bk, fs, rfl, hR, hO⟩
  cases e9
  generalize hLF : (bAll (fun k a => stk kd bs m (ks k) a) K (8 * m * m) (decA m (F 0))) = LF at hR hO ⊢
  refine j_iconst (v := 0) dX0_sumWith_12 (by decide) ?_
  refine j_istore_n dX0_sumWith_13 (by decide) rfl ?_
  refine j_iconst (v := 0) dX0_sumWith_14 (by decide) ?_
  refine j_istore_n dX0_sumWith_15 (by decide) rfl ?_
  refine j_less (L' := [some (.ref (r 0)), some (.int (nI K)), some (.int (smT (bN LF) tg 0)), some (.int (nI 0)), none]) ⟨Or.inr rfl, Or.inr rfl, Or.inr rfl, Or.inr rfl, Or.inl rfl, trivial⟩ ?_
  refine j_lp1 (fun (i : Nat) => fkS r dT g F (vo V [(6, st), (7, rw'), (8, bf), (9, bk), (10, fs)])) (fun i => [some (.ref (r 0)), some (.int (nI K)), some (.int (smT (bN LF) tg i)), some (.int (nI i)), none]) (fun i => i ≤ F 2) (fun i => F 2 - i) ?_ 0 (Nat.zero_le _)
  intro i hi1 ih
  refine j_iload_n dX0_sumWith_16 rfl ?_
  refine j_aload_n dX0_sumWith_17 rfl ?_
  refine j_get 1 dX0_sumWith_18 (by first | rfl | assumption) in_X0 rfl (by decide) q154 rfl ?_
  refine j_getN 3 dX0_sumWith_21 (by first | rfl | assumption) in_X2 rfl (by decide) (fun _ hs => hs.1 _ qn131) rfl ?_
  refine j_icmp_ge (tgt := 64) dX0_sumWith_24 (by decide) (fun c24 => ?_) (fun c24 => ?_)
  · skip
    have hvm : i = F 2 := by
      have := (nI_leI (by omega) (by omega)).mp c24
      omega
    subst hvm
    refine j_iload_n dX0_sumWith_64 rfl ?_
    refine j_iret dX0_sumWith_65 rfl rfl (Nat.le_refl _) (Nat.le_refl _) ?_
    exact js_i rfl vo5_sc
  · skip
    have hvm : i < F 2 := Nat.lt_of_not_le (fun q => c24 (nI_le q (by omega)))
    refine j_aload_n dX0_sumWith_27 rfl ?_
    refine j_aload_n dX0_sumWith_28 rfl ?_
    refine j_get 1 dX0_sumWith_29 (by first | rfl | assumption) in_X0 rfl (by decide) q154 rfl ?_
    refine j_getN 2 dX0_sumWith_32 (by first | rfl | assumption) in_X2 rfl (by decide) (fun _ hs => hs.1 _ qn129) rfl ?_
    refine j_iload_n dX0_sumWith_35 rfl ?_
    refine j_iald 0 i dX0_sumWith_36 (by first | rfl | assumption) rfl rfl (by show i < 6; omega) (by decide) ?_
    refine j_eqi (show _ = nI (tg i) from (htg i hvm).1) ?_
    refine j_callVi (f_fewestTo (V := vo V [(6, st), (7, rw'), (8, bf), (9, bk), (10, fs)]) hR hO hm2 (tg i) (htg i hvm).2) dX0_sumWith_37 pmX0_fewestTo q941 q943 qs19 (by first | rfl | assumption) rfl rfl rfl ⟨Nat.le_of_ble_eq_true rfl, Nat.le_of_ble_eq_true rfl⟩ ⟨Nat.le_of_ble_eq_true rfl, Nat.le_of_ble_eq_true rfl⟩ rfl (Nat.le_of_ble_eq_true rfl) ?_
    refine j_istore dX0_sumWith_40 (by decide) rfl ?_
    refine j_iload_n dX0_sumWith_42 rfl ?_
    refine j_join (tgt := 56) (fun x => x = if bN LF (tg i) = -1 then 99 else bN LF (tg i)) (fun v43 hv43 => ?_) (fun kj43 => ?_)
    · skip
      refine j_iadd dX0_sumWith_56 ?_
      refine j_istore_n dX0_sumWith_57 (by decide) rfl ?_
      refine j_iinc dX0_sumWith_58 rfl (by decide) rfl ?_
      refine j_goto (tgt := 16) dX0_sumWith_61 (by decide) ?_
      subst hv43
      refine j_less (L' := [some (.ref (r 0)), some (.int (nI K)), some (.int (smT (bN LF) tg (i + 1))), some (.int (nI (i + 1))), none]) ⟨Or.inr rfl, Or.inr rfl, Or.inr rfl, Or.inr (by rw [← nI_inc]), Or.inl rfl, trivial⟩ ?_
      exact ih (i + 1) (by omega) (by omega)
    · skip
      refine j_iload dX0_sumWith_43 rfl ?_
      refine j_iconst (v := (-1)) dX0_sumWith_45 (by decide) ?_
      refine j_icmp_ne (tgt := 54) dX0_sumWith_46 (by decide) (fun c46 => ?_) (fun c46 => ?_)
      · skip
        refine j_iload dX0_sumWith_54 rfl ?_
        exact kj43 _ (by first | exact (if_pos c46).symm | exact (if_neg c46).symm)
      · skip
        refine j_bipush (v := 99) dX0_sumWith_49 (by decide) ?_
        refine j_goto (tgt := 56) dX0_sumWith_51 (by decide) ?_
        exact kj43 _ (by first | exact (if_pos c46).symm | exact (if_neg c46).symm)
