set_option maxRecDepth 100000
/-- a key stands in the model's array: kind, cost, number, other -/
def mdQ (f : Nat → Int32) (k : Nat) (q : KY) : Prop := f (4 * k) = nI q.1 ∧ f (4 * k + 1) = nI q.2.1 ∧ f (4 * k + 2) = kNum q ∧ f (4 * k + 3) = kOth q
/-- as much of it as a stroke looks at -/
def mdQw (f : Nat → Int32) (k : Nat) (q : KY) : Prop := f (4 * k) = nI q.1 ∧ (q.1 = 0 ∨ q.1 = 6 ∨ q.1 = 7 → f (4 * k + 2) = nI q.2.2.1) ∧ (q.1 = 6 ∨ q.1 = 7 → f (4 * k + 3) = nI q.2.2.2)
theorem mdQ.w {f : Nat → Int32} {k : Nat} {q : KY} (h : mdQ f k q) : mdQw f k q := ⟨h.1, fun c => h.2.2.1.trans (if_pos c), fun c => h.2.2.2.trans (if_pos c)⟩
theorem jx0 (k : Nat) : (4 : Int32) * nI k = nI (4 * k) := by rw [show (4 : Int32) = nI 4 from rfl, pk_mul]
theorem jx1 (k : Nat) : (4 : Int32) * nI k + 1 = nI (4 * k + 1) := by rw [jx0, nI_1]
theorem jx2 (k : Nat) : (4 : Int32) * nI k + 2 = nI (4 * k + 2) := by rw [jx0, show (2 : Int32) = nI 2 from rfl, nI_add]
theorem jx3 (k : Nat) : (4 : Int32) * nI k + 3 = nI (4 * k + 3) := by rw [jx0, show (3 : Int32) = nI 3 from rfl, nI_add]
set_option maxHeartbeats 4000000 in
theorem m_doStroke {l : Launch} {D : va_G} {dT : Nat → ClassId} {H0 : Heap} {r : Nat → Nat} {nx : Nat} {g : j_H} {kd bs fg m nk : Nat} {a : A4} {F : Nat → Nat} {tk : Int64} {V : Nat → Nat → Int32} (hD : okD kd bs m) (ha : okA m a) (k : Nat) (hk9 : k < 9) (q : KY) (hk : okK bs m q) (hq : mdQw (V 101) k q) : MC (gG l D dT H0) yX3_doStroke cX3_doStroke 3 none 3 0 0 [.ref (r 100), .int (nI k)] r (mdS r dT g (nI kd) bs fg m nk a.1 a.2.1 a.2.2.1 a.2.2.2 F tk V) nx (jq_v r (mdS r dT g (nI kd) bs fg m nk (stk kd bs m q a).1 (stk kd bs m q a).2.1 (stk kd bs m q a).2.2.1 (stk kd bs m q a).2.2.2 F tk V) nx) := by
  refine MC.ofJ [some (.ref (r 100)), some (.int (nI k)), none] rfl (Nat.le_of_ble_eq_true rfl) (by decide) ?_
  refine j_aload_n dX3_doStroke_0 rfl ?_
  refine j_get 5 dX3_doStroke_1 (by first | rfl | assumption) in_X3 rfl (by decide) q1104 rfl ?_
  refine j_iconst (v := 4) dX3_doStroke_4 (by decide) ?_
  refine j_iload_n dX3_doStroke_5 rfl ?_
  refine j_imul dX3_doStroke_6 ?_
  refine j_iald 0 (4 * k) dX3_doStroke_7 (by first | rfl | assumption) rfl (jx0 k) (by show _ < 36; omega) (by decide) ?_
  refine j_eqi (show _ = nI q.1 from hq.1) ?_
  refine j_istore_n dX3_doStroke_8 (by decide) rfl ?_
  refine j_iload_n dX3_doStroke_9 rfl ?_
  skip
  have hq7 : q.1 = 0 ∨ q.1 = 1 ∨ q.1 = 2 ∨ q.1 = 3 ∨ q.1 = 4 ∨ q.1 = 5 ∨ q.1 = 6 ∨ q.1 = 7 := by have := hk.1; omega
  rcases hq7 with q0 | q0 | q0 | q0 | q0 | q0 | q0 | q0
  · rw [q0]
    refine j_tabI (off := 42) (tgt := 52) dX3_doStroke_10 (by decide) (by decide) (by decide) (by decide) ?_
    have hst : stk kd bs m q a = figA kd bs m q.2.2.1 a := by unfold stk; rw [if_pos q0]
    have hn : kNum q = nI q.2.2.1 := by unfold kNum; rw [if_pos (Or.inl q0)]
    have hdl := hk.2.2.1 q0
    rw [hst]
    refine j_aload_n dX3_doStroke_52 rfl ?_
    refine j_aload_n dX3_doStroke_53 rfl ?_
    refine j_get 5 dX3_doStroke_54 (by first | rfl | assumption) in_X3 rfl (by decide) q1104 rfl ?_
    refine j_iconst (v := 4) dX3_doStroke_57 (by decide) ?_
    refine j_iload_n dX3_doStroke_58 rfl ?_
    refine j_imul dX3_doStroke_59 ?_
    refine j_iconst (v := 2) dX3_doStroke_60 (by decide) ?_
    refine j_iadd dX3_doStroke_61 ?_
    refine j_iald 0 (4 * k + 2) dX3_doStroke_62 (by first | rfl | assumption) rfl (jx2 k) (by show _ < 36; omega) (by decide) ?_
    refine j_eqi (show _ = nI q.2.2.1 from hq.2.1 (Or.inl q0)) ?_
    refine j_callVv (m_figure hD ha q.2.2.1 (by have := hD.2.2.1; omega)) dX3_doStroke_63 pmX3_figure q1316 q1318 qs38 (by first | rfl | assumption) rfl rfl rfl ⟨Nat.le_of_ble_eq_true rfl, Nat.le_of_ble_eq_true rfl⟩ ⟨Nat.le_of_ble_eq_true rfl, Nat.le_of_ble_eq_true rfl⟩ rfl (Nat.le_of_ble_eq_true rfl) ?_
    refine j_goto (tgt := 258) dX3_doStroke_66 (by decide) ?_
    refine j_vret dX3_doStroke_258 rfl (Nat.le_refl _) (Nat.le_refl _) ?_
    exact jr_v rfl
  · rw [q0]
    refine j_tabI (off := 59) (tgt := 69) dX3_doStroke_10 (by decide) (by decide) (by decide) (by decide) ?_
    have hst : stk kd bs m q a = (1, (if 0 < a.1 ∧ a.2.2.2 = 1 then reck kd m a.1 a.2.1 a.2.2.1 else a.2.2.1), (if 0 < a.1 ∧ a.2.2.2 = 1 then reck kd m a.1 a.2.1 a.2.2.1 else a.2.2.1), 0) := by unfold stk; rw [if_neg (by omega), if_neg (by omega), if_neg (by omega), if_neg (by omega), if_neg (by omega), q0]
    rw [hst]
    refine j_aload_n dX3_doStroke_69 rfl ?_
    refine j_join (tgt := 107) (fun z => z = nI (if 0 < a.1 ∧ a.2.2.2 = 1 then reck kd m a.1 a.2.1 a.2.2.1 else a.2.2.1)) (fun v70 hv70 => ?_) (fun kj70 => ?_)
    · skip
      subst hv70
      refine j_put 21 dX3_doStroke_107 (by first | rfl | assumption) in_X3 tyX3_ok nmX3 rfl (by decide) q1120 rfl rfl rfl (by first | decide | simp) ?_
      refine j_mdA (w' := a.1) (x' := a.2.1) (s' := (if 0 < a.1 ∧ a.2.2.2 = 1 then reck kd m a.1 a.2.1 a.2.2.1 else a.2.2.1)) (t' := a.2.2.2) rfl ?_
      refine j_aload_n dX3_doStroke_110 rfl ?_
      refine j_aload_n dX3_doStroke_111 rfl ?_
      refine j_get 21 dX3_doStroke_112 (by first | rfl | assumption) in_X3 rfl (by decide) q1120 rfl ?_
      refine j_put 23 dX3_doStroke_115 (by first | rfl | assumption) in_X3 tyX3_ok nmX3 rfl (by decide) q1122 rfl rfl rfl (by first | decide | simp) ?_
      refine j_mdA (w' := a.1) (x' := (if 0 < a.1 ∧ a.2.2.2 = 1 then reck kd m a.1 a.2.1 a.2.2.1 else a.2.2.1)) (s' := (if 0 < a.1 ∧ a.2.2.2 = 1 then reck kd m a.1 a.2.1 a.2.2.1 else a.2.2.1)) (t' := a.2.2.2) rfl ?_
      refine j_aload_n dX3_doStroke_118 rfl ?_
      refine j_iload_n dX3_doStroke_119 rfl ?_
      refine j_put 22 dX3_doStroke_120 (by first | rfl | assumption) in_X3 tyX3_ok nmX3 rfl (by decide) q1121 rfl rfl rfl (by first | decide | simp) ?_
      refine j_mdA (w' := 1) (x' := (if 0 < a.1 ∧ a.2.2.2 = 1 then reck kd m a.1 a.2.1 a.2.2.1 else a.2.2.1)) (s' := (if 0 < a.1 ∧ a.2.2.2 = 1 then reck kd m a.1 a.2.1 a.2.2.1 else a.2.2.1)) (t' := a.2.2.2) rfl ?_
      refine j_aload_n dX3_doStroke_123 rfl ?_
      refine j_iconst (v := 0) dX3_doStroke_124 (by decide) ?_
      refine j_put 24 dX3_doStroke_125 (by first | rfl | assumption) in_X3 tyX3_ok nmX3 rfl (by decide) q1123 rfl rfl rfl (by first | decide | simp) ?_
      refine j_mdA (w' := 1) (x' := (if 0 < a.1 ∧ a.2.2.2 = 1 then reck kd m a.1 a.2.1 a.2.2.1 else a.2.2.1)) (s' := (if 0 < a.1 ∧ a.2.2.2 = 1 then reck kd m a.1 a.2.1 a.2.2.1 else a.2.2.1)) (t' := 0) rfl ?_
      refine j_goto (tgt := 258) dX3_doStroke_128 (by decide) ?_
      refine j_vret dX3_doStroke_258 rfl (Nat.le_refl _) (Nat.le_refl _) ?_
      exact jr_v rfl
    · skip
      refine j_aload_n dX3_doStroke_70 rfl ?_
      refine j_get 22 dX3_doStroke_71 (by first | rfl | assumption) in_X3 rfl (by decide) q1121 rfl ?_
      refine j_if_le (tgt := 103) dX3_doStroke_74 (by decide) (fun c74 => ?_) (fun c74 => ?_)
      · skip
        have hj : nI a.2.2.1 = nI (if 0 < a.1 ∧ a.2.2.2 = 1 then reck kd m a.1 a.2.1 a.2.2.1 else a.2.2.1) := by rw [if_neg (fun q => absurd c74 (nI_nle q.1 (by have := ha.1; omega)))]
        refine j_aload_n dX3_doStroke_103 rfl ?_
        refine j_get 21 dX3_doStroke_104 (by first | rfl | assumption) in_X3 rfl (by decide) q1120 rfl ?_
        exact kj70 _ hj
      · skip
        have c74 : 0 < a.1 := by
          rcases Nat.eq_zero_or_pos a.1 with q | q
          · exact absurd (by rw [q]; exact Int32.le_refl _) c74
          · exact q
        refine j_aload_n dX3_doStroke_77 rfl ?_
        refine j_get 24 dX3_doStroke_78 (by first | rfl | assumption) in_X3 rfl (by decide) q1123 rfl ?_
        refine j_if_eq (tgt := 103) dX3_doStroke_81 (by decide) (fun c81 => ?_) (fun c81 => ?_)
        · skip
          have hj : nI a.2.2.1 = nI (if 0 < a.1 ∧ a.2.2.2 = 1 then reck kd m a.1 a.2.1 a.2.2.1 else a.2.2.1) := by
            rw [if_neg (fun q => by rw [q.2] at c81; exact absurd c81 (by decide))]
          refine j_aload_n dX3_doStroke_103 rfl ?_
          refine j_get 21 dX3_doStroke_104 (by first | rfl | assumption) in_X3 rfl (by decide) q1120 rfl ?_
          exact kj70 _ hj
        · skip
          have hj : nI (reck kd m a.1 a.2.1 a.2.2.1) = nI (if 0 < a.1 ∧ a.2.2.2 = 1 then reck kd m a.1 a.2.1 a.2.2.1 else a.2.2.1) := by
            have : ¬ a.2.2.2 = 0 := fun q => c81 (by rw [q]; rfl)
            rw [if_pos ⟨c74, by have := ha.2.2.2; omega⟩]
          refine j_aload_n dX3_doStroke_84 rfl ?_
          refine j_aload_n dX3_doStroke_85 rfl ?_
          refine j_get 22 dX3_doStroke_86 (by first | rfl | assumption) in_X3 rfl (by decide) q1121 rfl ?_
          refine j_aload_n dX3_doStroke_89 rfl ?_
          refine j_get 23 dX3_doStroke_90 (by first | rfl | assumption) in_X3 rfl (by decide) q1122 rfl ?_
          refine j_aload_n dX3_doStroke_93 rfl ?_
          refine j_get 21 dX3_doStroke_94 (by first | rfl | assumption) in_X3 rfl (by decide) q1120 rfl ?_
          refine j_callVi (m_reckon hD a.1 a.2.1 a.2.2.1 (by have := ha.1; omega) ha.2.1 ha.2.2.1) dX3_doStroke_97 pmX3_reckon q1320 q1322 qs39 (by first | rfl | assumption) rfl rfl rfl ⟨Nat.le_of_ble_eq_true rfl, Nat.le_of_ble_eq_true rfl⟩ ⟨Nat.le_of_ble_eq_true rfl, Nat.le_of_ble_eq_true rfl⟩ rfl (Nat.le_of_ble_eq_true rfl) ?_
          refine j_goto (tgt := 107) dX3_doStroke_100 (by decide) ?_
          exact kj70 _ hj
  · rw [q0]
    refine j_tabI (off := 59) (tgt := 69) dX3_doStroke_10 (by decide) (by decide) (by decide) (by decide) ?_
    have hst : stk kd bs m q a = (2, (if 0 < a.1 ∧ a.2.2.2 = 1 then reck kd m a.1 a.2.1 a.2.2.1 else a.2.2.1), (if 0 < a.1 ∧ a.2.2.2 = 1 then reck kd m a.1 a.2.1 a.2.2.1 else a.2.2.1), 0) := by unfold stk; rw [if_neg (by omega), if_neg (by omega), if_neg (by omega), if_neg (by omega), if_neg (by omega), q0]
    rw [hst]
    refine j_aload_n dX3_doStroke_69 rfl ?_
    refine j_join (tgt := 107) (fun z => z = nI (if 0 < a.1 ∧ a.2.2.2 = 1 then reck kd m a.1 a.2.1 a.2.2.1 else a.2.2.1)) (fun v70 hv70 => ?_) (fun kj70 => ?_)
    · skip
      subst hv70
      refine j_put 21 dX3_doStroke_107 (by first | rfl | assumption) in_X3 tyX3_ok nmX3 rfl (by decide) q1120 rfl rfl rfl (by first | decide | simp) ?_
      refine j_mdA (w' := a.1) (x' := a.2.1) (s' := (if 0 < a.1 ∧ a.2.2.2 = 1 then reck kd m a.1 a.2.1 a.2.2.1 else a.2.2.1)) (t' := a.2.2.2) rfl ?_
      refine j_aload_n dX3_doStroke_110 rfl ?_
      refine j_aload_n dX3_doStroke_111 rfl ?_
      refine j_get 21 dX3_doStroke_112 (by first | rfl | assumption) in_X3 rfl (by decide) q1120 rfl ?_
      refine j_put 23 dX3_doStroke_115 (by first | rfl | assumption) in_X3 tyX3_ok nmX3 rfl (by decide) q1122 rfl rfl rfl (by first | decide | simp) ?_
      refine j_mdA (w' := a.1) (x' := (if 0 < a.1 ∧ a.2.2.2 = 1 then reck kd m a.1 a.2.1 a.2.2.1 else a.2.2.1)) (s' := (if 0 < a.1 ∧ a.2.2.2 = 1 then reck kd m a.1 a.2.1 a.2.2.1 else a.2.2.1)) (t' := a.2.2.2) rfl ?_
      refine j_aload_n dX3_doStroke_118 rfl ?_
      refine j_iload_n dX3_doStroke_119 rfl ?_
      refine j_put 22 dX3_doStroke_120 (by first | rfl | assumption) in_X3 tyX3_ok nmX3 rfl (by decide) q1121 rfl rfl rfl (by first | decide | simp) ?_
      refine j_mdA (w' := 2) (x' := (if 0 < a.1 ∧ a.2.2.2 = 1 then reck kd m a.1 a.2.1 a.2.2.1 else a.2.2.1)) (s' := (if 0 < a.1 ∧ a.2.2.2 = 1 then reck kd m a.1 a.2.1 a.2.2.1 else a.2.2.1)) (t' := a.2.2.2) rfl ?_
      refine j_aload_n dX3_doStroke_123 rfl ?_
      refine j_iconst (v := 0) dX3_doStroke_124 (by decide) ?_
      refine j_put 24 dX3_doStroke_125 (by first | rfl | assumption) in_X3 tyX3_ok nmX3 rfl (by decide) q1123 rfl rfl rfl (by first | decide | simp) ?_
      refine j_mdA (w' := 2) (x' := (if 0 < a.1 ∧ a.2.2.2 = 1 then reck kd m a.1 a.2.1 a.2.2.1 else a.2.2.1)) (s' := (if 0 < a.1 ∧ a.2.2.2 = 1 then reck kd m a.1 a.2.1 a.2.2.1 else a.2.2.1)) (t' := 0) rfl ?_
      refine j_goto (tgt := 258) dX3_doStroke_128 (by decide) ?_
      refine j_vret dX3_doStroke_258 rfl (Nat.le_refl _) (Nat.le_refl _) ?_
      exact jr_v rfl
    · skip
      refine j_aload_n dX3_doStroke_70 rfl ?_
      refine j_get 22 dX3_doStroke_71 (by first | rfl | assumption) in_X3 rfl (by decide) q1121 rfl ?_
      refine j_if_le (tgt := 103) dX3_doStroke_74 (by decide) (fun c74 => ?_) (fun c74 => ?_)
      · skip
        have hj : nI a.2.2.1 = nI (if 0 < a.1 ∧ a.2.2.2 = 1 then reck kd m a.1 a.2.1 a.2.2.1 else a.2.2.1) := by rw [if_neg (fun q => absurd c74 (nI_nle q.1 (by have := ha.1; omega)))]
        refine j_aload_n dX3_doStroke_103 rfl ?_
        refine j_get 21 dX3_doStroke_104 (by first | rfl | assumption) in_X3 rfl (by decide) q1120 rfl ?_
        exact kj70 _ hj
      · skip
        have c74 : 0 < a.1 := by
          rcases Nat.eq_zero_or_pos a.1 with q | q
          · exact absurd (by rw [q]; exact Int32.le_refl _) c74
          · exact q
        refine j_aload_n dX3_doStroke_77 rfl ?_
        refine j_get 24 dX3_doStroke_78 (by first | rfl | assumption) in_X3 rfl (by decide) q1123 rfl ?_
        refine j_if_eq (tgt := 103) dX3_doStroke_81 (by decide) (fun c81 => ?_) (fun c81 => ?_)
        · skip
          have hj : nI a.2.2.1 = nI (if 0 < a.1 ∧ a.2.2.2 = 1 then reck kd m a.1 a.2.1 a.2.2.1 else a.2.2.1) := by
            rw [if_neg (fun q => by rw [q.2] at c81; exact absurd c81 (by decide))]
          refine j_aload_n dX3_doStroke_103 rfl ?_
          refine j_get 21 dX3_doStroke_104 (by first | rfl | assumption) in_X3 rfl (by decide) q1120 rfl ?_
          exact kj70 _ hj
        · skip
          have hj : nI (reck kd m a.1 a.2.1 a.2.2.1) = nI (if 0 < a.1 ∧ a.2.2.2 = 1 then reck kd m a.1 a.2.1 a.2.2.1 else a.2.2.1) := by
            have : ¬ a.2.2.2 = 0 := fun q => c81 (by rw [q]; rfl)
            rw [if_pos ⟨c74, by have := ha.2.2.2; omega⟩]
          refine j_aload_n dX3_doStroke_84 rfl ?_
          refine j_aload_n dX3_doStroke_85 rfl ?_
          refine j_get 22 dX3_doStroke_86 (by first | rfl | assumption) in_X3 rfl (by decide) q1121 rfl ?_
          refine j_aload_n dX3_doStroke_89 rfl ?_
          refine j_get 23 dX3_doStroke_90 (by first | rfl | assumption) in_X3 rfl (by decide) q1122 rfl ?_
          refine j_aload_n dX3_doStroke_93 rfl ?_
          refine j_get 21 dX3_doStroke_94 (by first | rfl | assumption) in_X3 rfl (by decide) q1120 rfl ?_
          refine j_callVi (m_reckon hD a.1 a.2.1 a.2.2.1 (by have := ha.1; omega) ha.2.1 ha.2.2.1) dX3_doStroke_97 pmX3_reckon q1320 q1322 qs39 (by first | rfl | assumption) rfl rfl rfl ⟨Nat.le_of_ble_eq_true rfl, Nat.le_of_ble_eq_true rfl⟩ ⟨Nat.le_of_ble_eq_true rfl, Nat.le_of_ble_eq_true rfl⟩ rfl (Nat.le_of_ble_eq_true rfl) ?_
          refine j_goto (tgt := 107) dX3_doStroke_100 (by decide) ?_
          exact kj70 _ hj
  · rw [q0]
    refine j_tabI (off := 59) (tgt := 69) dX3_doStroke_10 (by decide) (by decide) (by decide) (by decide) ?_
    have hst : stk kd bs m q a = (3, (if 0 < a.1 ∧ a.2.2.2 = 1 then reck kd m a.1 a.2.1 a.2.2.1 else a.2.2.1), (if 0 < a.1 ∧ a.2.2.2 = 1 then reck kd m a.1 a.2.1 a.2.2.1 else a.2.2.1), 0) := by unfold stk; rw [if_neg (by omega), if_neg (by omega), if_neg (by omega), if_neg (by omega), if_neg (by omega), q0]
    rw [hst]
    refine j_aload_n dX3_doStroke_69 rfl ?_
    refine j_join (tgt := 107) (fun z => z = nI (if 0 < a.1 ∧ a.2.2.2 = 1 then reck kd m a.1 a.2.1 a.2.2.1 else a.2.2.1)) (fun v70 hv70 => ?_) (fun kj70 => ?_)
    · skip
      subst hv70
      refine j_put 21 dX3_doStroke_107 (by first | rfl | assumption) in_X3 tyX3_ok nmX3 rfl (by decide) q1120 rfl rfl rfl (by first | decide | simp) ?_
      refine j_mdA (w' := a.1) (x' := a.2.1) (s' := (if 0 < a.1 ∧ a.2.2.2 = 1 then reck kd m a.1 a.2.1 a.2.2.1 else a.2.2.1)) (t' := a.2.2.2) rfl ?_
      refine j_aload_n dX3_doStroke_110 rfl ?_
      refine j_aload_n dX3_doStroke_111 rfl ?_
      refine j_get 21 dX3_doStroke_112 (by first | rfl | assumption) in_X3 rfl (by decide) q1120 rfl ?_
      refine j_put 23 dX3_doStroke_115 (by first | rfl | assumption) in_X3 tyX3_ok nmX3 rfl (by decide) q1122 rfl rfl rfl (by first | decide | simp) ?_
      refine j_mdA (w' := a.1) (x' := (if 0 < a.1 ∧ a.2.2.2 = 1 then reck kd m a.1 a.2.1 a.2.2.1 else a.2.2.1)) (s' := (if 0 < a.1 ∧ a.2.2.2 = 1 then reck kd m a.1 a.2.1 a.2.2.1 else a.2.2.1)) (t' := a.2.2.2) rfl ?_
      refine j_aload_n dX3_doStroke_118 rfl ?_
      refine j_iload_n dX3_doStroke_119 rfl ?_
      refine j_put 22 dX3_doStroke_120 (by first | rfl | assumption) in_X3 tyX3_ok nmX3 rfl (by decide) q1121 rfl rfl rfl (by first | decide | simp) ?_
      refine j_mdA (w' := 3) (x' := (if 0 < a.1 ∧ a.2.2.2 = 1 then reck kd m a.1 a.2.1 a.2.2.1 else a.2.2.1)) (s' := (if 0 < a.1 ∧ a.2.2.2 = 1 then reck kd m a.1 a.2.1 a.2.2.1 else a.2.2.1)) (t' := a.2.2.2) rfl ?_
      refine j_aload_n dX3_doStroke_123 rfl ?_
      refine j_iconst (v := 0) dX3_doStroke_124 (by decide) ?_
      refine j_put 24 dX3_doStroke_125 (by first | rfl | assumption) in_X3 tyX3_ok nmX3 rfl (by decide) q1123 rfl rfl rfl (by first | decide | simp) ?_
      refine j_mdA (w' := 3) (x' := (if 0 < a.1 ∧ a.2.2.2 = 1 then reck kd m a.1 a.2.1 a.2.2.1 else a.2.2.1)) (s' := (if 0 < a.1 ∧ a.2.2.2 = 1 then reck kd m a.1 a.2.1 a.2.2.1 else a.2.2.1)) (t' := 0) rfl ?_
      refine j_goto (tgt := 258) dX3_doStroke_128 (by decide) ?_
      refine j_vret dX3_doStroke_258 rfl (Nat.le_refl _) (Nat.le_refl _) ?_
      exact jr_v rfl
    · skip
      refine j_aload_n dX3_doStroke_70 rfl ?_
      refine j_get 22 dX3_doStroke_71 (by first | rfl | assumption) in_X3 rfl (by decide) q1121 rfl ?_
      refine j_if_le (tgt := 103) dX3_doStroke_74 (by decide) (fun c74 => ?_) (fun c74 => ?_)
      · skip
        have hj : nI a.2.2.1 = nI (if 0 < a.1 ∧ a.2.2.2 = 1 then reck kd m a.1 a.2.1 a.2.2.1 else a.2.2.1) := by rw [if_neg (fun q => absurd c74 (nI_nle q.1 (by have := ha.1; omega)))]
        refine j_aload_n dX3_doStroke_103 rfl ?_
        refine j_get 21 dX3_doStroke_104 (by first | rfl | assumption) in_X3 rfl (by decide) q1120 rfl ?_
        exact kj70 _ hj
      · skip
        have c74 : 0 < a.1 := by
          rcases Nat.eq_zero_or_pos a.1 with q | q
          · exact absurd (by rw [q]; exact Int32.le_refl _) c74
          · exact q
        refine j_aload_n dX3_doStroke_77 rfl ?_
        refine j_get 24 dX3_doStroke_78 (by first | rfl | assumption) in_X3 rfl (by decide) q1123 rfl ?_
        refine j_if_eq (tgt := 103) dX3_doStroke_81 (by decide) (fun c81 => ?_) (fun c81 => ?_)
        · skip
          have hj : nI a.2.2.1 = nI (if 0 < a.1 ∧ a.2.2.2 = 1 then reck kd m a.1 a.2.1 a.2.2.1 else a.2.2.1) := by
            rw [if_neg (fun q => by rw [q.2] at c81; exact absurd c81 (by decide))]
          refine j_aload_n dX3_doStroke_103 rfl ?_
          refine j_get 21 dX3_doStroke_104 (by first | rfl | assumption) in_X3 rfl (by decide) q1120 rfl ?_
          exact kj70 _ hj
        · skip
          have hj : nI (reck kd m a.1 a.2.1 a.2.2.1) = nI (if 0 < a.1 ∧ a.2.2.2 = 1 then reck kd m a.1 a.2.1 a.2.2.1 else a.2.2.1) := by
            have : ¬ a.2.2.2 = 0 := fun q => c81 (by rw [q]; rfl)
            rw [if_pos ⟨c74, by have := ha.2.2.2; omega⟩]
          refine j_aload_n dX3_doStroke_84 rfl ?_
          refine j_aload_n dX3_doStroke_85 rfl ?_
          refine j_get 22 dX3_doStroke_86 (by first | rfl | assumption) in_X3 rfl (by decide) q1121 rfl ?_
          refine j_aload_n dX3_doStroke_89 rfl ?_
          refine j_get 23 dX3_doStroke_90 (by first | rfl | assumption) in_X3 rfl (by decide) q1122 rfl ?_
          refine j_aload_n dX3_doStroke_93 rfl ?_
          refine j_get 21 dX3_doStroke_94 (by first | rfl | assumption) in_X3 rfl (by decide) q1120 rfl ?_
          refine j_callVi (m_reckon hD a.1 a.2.1 a.2.2.1 (by have := ha.1; omega) ha.2.1 ha.2.2.1) dX3_doStroke_97 pmX3_reckon q1320 q1322 qs39 (by first | rfl | assumption) rfl rfl rfl ⟨Nat.le_of_ble_eq_true rfl, Nat.le_of_ble_eq_true rfl⟩ ⟨Nat.le_of_ble_eq_true rfl, Nat.le_of_ble_eq_true rfl⟩ rfl (Nat.le_of_ble_eq_true rfl) ?_
          refine j_goto (tgt := 107) dX3_doStroke_100 (by decide) ?_
          exact kj70 _ hj
  · rw [q0]
    refine j_tabI (off := 121) (tgt := 131) dX3_doStroke_10 (by decide) (by decide) (by decide) (by decide) ?_
    have hst : stk kd bs m q a = (0, 0, (if 0 < a.1 then reck kd m a.1 a.2.1 a.2.2.1 else a.2.2.1), 0) := by unfold stk; rw [if_neg (by omega), if_neg (by omega), if_pos q0]
    rw [hst]
    refine j_aload_n dX3_doStroke_131 rfl ?_
    refine j_join (tgt := 162) (fun z => z = nI (if 0 < a.1 then reck kd m a.1 a.2.1 a.2.2.1 else a.2.2.1)) (fun v132 hv132 => ?_) (fun kj132 => ?_)
    · skip
      subst hv132
      refine j_put 21 dX3_doStroke_162 (by first | rfl | assumption) in_X3 tyX3_ok nmX3 rfl (by decide) q1120 rfl rfl rfl (by first | decide | simp) ?_
      refine j_mdA (w' := a.1) (x' := a.2.1) (s' := (if 0 < a.1 then reck kd m a.1 a.2.1 a.2.2.1 else a.2.2.1)) (t' := a.2.2.2) rfl ?_
      refine j_aload_n dX3_doStroke_165 rfl ?_
      refine j_iconst (v := 0) dX3_doStroke_166 (by decide) ?_
      refine j_put 23 dX3_doStroke_167 (by first | rfl | assumption) in_X3 tyX3_ok nmX3 rfl (by decide) q1122 rfl rfl rfl (by first | decide | simp) ?_
      refine j_mdA (w' := a.1) (x' := 0) (s' := (if 0 < a.1 then reck kd m a.1 a.2.1 a.2.2.1 else a.2.2.1)) (t' := a.2.2.2) rfl ?_
      refine j_aload_n dX3_doStroke_170 rfl ?_
      refine j_iconst (v := 0) dX3_doStroke_171 (by decide) ?_
      refine j_put 22 dX3_doStroke_172 (by first | rfl | assumption) in_X3 tyX3_ok nmX3 rfl (by decide) q1121 rfl rfl rfl (by first | decide | simp) ?_
      refine j_mdA (w' := 0) (x' := 0) (s' := (if 0 < a.1 then reck kd m a.1 a.2.1 a.2.2.1 else a.2.2.1)) (t' := a.2.2.2) rfl ?_
      refine j_aload_n dX3_doStroke_175 rfl ?_
      refine j_iconst (v := 0) dX3_doStroke_176 (by decide) ?_
      refine j_put 24 dX3_doStroke_177 (by first | rfl | assumption) in_X3 tyX3_ok nmX3 rfl (by decide) q1123 rfl rfl rfl (by first | decide | simp) ?_
      refine j_mdA (w' := 0) (x' := 0) (s' := (if 0 < a.1 then reck kd m a.1 a.2.1 a.2.2.1 else a.2.2.1)) (t' := 0) rfl ?_
      refine j_goto (tgt := 258) dX3_doStroke_180 (by decide) ?_
      refine j_vret dX3_doStroke_258 rfl (Nat.le_refl _) (Nat.le_refl _) ?_
      exact jr_v rfl
    · skip
      refine j_aload_n dX3_doStroke_132 rfl ?_
      refine j_get 22 dX3_doStroke_133 (by first | rfl | assumption) in_X3 rfl (by decide) q1121 rfl ?_
      refine j_if_le (tgt := 158) dX3_doStroke_136 (by decide) (fun c136 => ?_) (fun c136 => ?_)
      · skip
        have hj : nI a.2.2.1 = nI (if 0 < a.1 then reck kd m a.1 a.2.1 a.2.2.1 else a.2.2.1) := by rw [if_neg (fun q => absurd c136 (nI_nle q (by have := ha.1; omega)))]
        refine j_aload_n dX3_doStroke_158 rfl ?_
        refine j_get 21 dX3_doStroke_159 (by first | rfl | assumption) in_X3 rfl (by decide) q1120 rfl ?_
        exact kj132 _ hj
      · skip
        have c136 : 0 < a.1 := by
          rcases Nat.eq_zero_or_pos a.1 with q | q
          · exact absurd (by rw [q]; exact Int32.le_refl _) c136
          · exact q
        have hj : nI (reck kd m a.1 a.2.1 a.2.2.1) = nI (if 0 < a.1 then reck kd m a.1 a.2.1 a.2.2.1 else a.2.2.1) := by rw [if_pos c136]
        refine j_aload_n dX3_doStroke_139 rfl ?_
        refine j_aload_n dX3_doStroke_140 rfl ?_
        refine j_get 22 dX3_doStroke_141 (by first | rfl | assumption) in_X3 rfl (by decide) q1121 rfl ?_
        refine j_aload_n dX3_doStroke_144 rfl ?_
        refine j_get 23 dX3_doStroke_145 (by first | rfl | assumption) in_X3 rfl (by decide) q1122 rfl ?_
        refine j_aload_n dX3_doStroke_148 rfl ?_
        refine j_get 21 dX3_doStroke_149 (by first | rfl | assumption) in_X3 rfl (by decide) q1120 rfl ?_
        refine j_callVi (m_reckon hD a.1 a.2.1 a.2.2.1 (by have := ha.1; omega) ha.2.1 ha.2.2.1) dX3_doStroke_152 pmX3_reckon q1320 q1322 qs39 (by first | rfl | assumption) rfl rfl rfl ⟨Nat.le_of_ble_eq_true rfl, Nat.le_of_ble_eq_true rfl⟩ ⟨Nat.le_of_ble_eq_true rfl, Nat.le_of_ble_eq_true rfl⟩ rfl (Nat.le_of_ble_eq_true rfl) ?_
        refine j_goto (tgt := 162) dX3_doStroke_155 (by decide) ?_
        exact kj132 _ hj
  · rw [q0]
    refine j_tabI (off := 173) (tgt := 183) dX3_doStroke_10 (by decide) (by decide) (by decide) (by decide) ?_
    have hst : stk kd bs m q a = (0, 0, 0, 0) := by unfold stk; rw [if_neg (by omega), if_neg (by omega), if_neg (by omega), if_pos q0]
    rw [hst]
    refine j_aload_n dX3_doStroke_183 rfl ?_
    refine j_callVv m_start dX3_doStroke_184 pmX3_start q1291 q1293 qs36 (by first | rfl | assumption) rfl rfl rfl ⟨Nat.le_of_ble_eq_true rfl, Nat.le_of_ble_eq_true rfl⟩ ⟨Nat.le_of_ble_eq_true rfl, Nat.le_of_ble_eq_true rfl⟩ rfl (Nat.le_of_ble_eq_true rfl) ?_
    refine j_goto (tgt := 258) dX3_doStroke_187 (by decide) ?_
    refine j_vret dX3_doStroke_258 rfl (Nat.le_refl _) (Nat.le_refl _) ?_
    exact jr_v rfl
  · rw [q0]
    refine j_tabI (off := 180) (tgt := 190) dX3_doStroke_10 (by decide) (by decide) (by decide) (by decide) ?_
    have hst : stk kd bs m q a = (a.1, a.2.1, (reck kd m q.2.2.2 a.2.2.1 q.2.2.1), 0) := by unfold stk; rw [if_neg (by omega), if_neg (by omega), if_neg (by omega), if_neg (by omega), if_pos q0]
    have hn : kNum q = nI q.2.2.1 := by unfold kNum; rw [if_pos (Or.inr (Or.inl q0))]
    have ho : kOth q = nI q.2.2.2 := by unfold kOth; rw [if_pos (Or.inl q0)]
    have h6 := hk.2.2.2.2 q0
    rw [hst]
    refine j_aload_n dX3_doStroke_190 rfl ?_
    refine j_aload_n dX3_doStroke_191 rfl ?_
    refine j_aload_n dX3_doStroke_192 rfl ?_
    refine j_get 5 dX3_doStroke_193 (by first | rfl | assumption) in_X3 rfl (by decide) q1104 rfl ?_
    refine j_iconst (v := 4) dX3_doStroke_196 (by decide) ?_
    refine j_iload_n dX3_doStroke_197 rfl ?_
    refine j_imul dX3_doStroke_198 ?_
    refine j_iconst (v := 3) dX3_doStroke_199 (by decide) ?_
    refine j_iadd dX3_doStroke_200 ?_
    refine j_iald 0 (4 * k + 3) dX3_doStroke_201 (by first | rfl | assumption) rfl (jx3 k) (by show _ < 36; omega) (by decide) ?_
    refine j_eqi (show _ = nI q.2.2.2 from hq.2.2 (Or.inl q0)) ?_
    refine j_aload_n dX3_doStroke_202 rfl ?_
    refine j_get 21 dX3_doStroke_203 (by first | rfl | assumption) in_X3 rfl (by decide) q1120 rfl ?_
    refine j_aload_n dX3_doStroke_206 rfl ?_
    refine j_get 5 dX3_doStroke_207 (by first | rfl | assumption) in_X3 rfl (by decide) q1104 rfl ?_
    refine j_iconst (v := 4) dX3_doStroke_210 (by decide) ?_
    refine j_iload_n dX3_doStroke_211 rfl ?_
    refine j_imul dX3_doStroke_212 ?_
    refine j_iconst (v := 2) dX3_doStroke_213 (by decide) ?_
    refine j_iadd dX3_doStroke_214 ?_
    refine j_iald 0 (4 * k + 2) dX3_doStroke_215 (by first | rfl | assumption) rfl (jx2 k) (by show _ < 36; omega) (by decide) ?_
    refine j_eqi (show _ = nI q.2.2.1 from hq.2.1 (Or.inr (Or.inl q0))) ?_
    refine j_callVi (m_reckon hD q.2.2.2 a.2.2.1 q.2.2.1 h6.2.2 ha.2.2.1 h6.1) dX3_doStroke_216 pmX3_reckon q1320 q1322 qs39 (by first | rfl | assumption) rfl rfl rfl ⟨Nat.le_of_ble_eq_true rfl, Nat.le_of_ble_eq_true rfl⟩ ⟨Nat.le_of_ble_eq_true rfl, Nat.le_of_ble_eq_true rfl⟩ rfl (Nat.le_of_ble_eq_true rfl) ?_
    refine j_put 21 dX3_doStroke_219 (by first | rfl | assumption) in_X3 tyX3_ok nmX3 rfl (by decide) q1120 rfl rfl rfl (by first | decide | simp) ?_
    refine j_mdA (w' := a.1) (x' := a.2.1) (s' := (reck kd m q.2.2.2 a.2.2.1 q.2.2.1)) (t' := a.2.2.2) rfl ?_
    refine j_aload_n dX3_doStroke_222 rfl ?_
    refine j_iconst (v := 0) dX3_doStroke_223 (by decide) ?_
    refine j_put 24 dX3_doStroke_224 (by first | rfl | assumption) in_X3 tyX3_ok nmX3 rfl (by decide) q1123 rfl rfl rfl (by first | decide | simp) ?_
    refine j_mdA (w' := a.1) (x' := a.2.1) (s' := (reck kd m q.2.2.2 a.2.2.1 q.2.2.1)) (t' := 0) rfl ?_
    refine j_goto (tgt := 258) dX3_doStroke_227 (by decide) ?_
    refine j_vret dX3_doStroke_258 rfl (Nat.le_refl _) (Nat.le_refl _) ?_
    exact jr_v rfl
  · rw [q0]
    refine j_tabO (tgt := 230) dX3_doStroke_10 (by decide) (by decide) ?_
    have hst : stk kd bs m q a = figA kd bs m q.2.2.2 (figA kd bs m q.2.2.1 a) := by unfold stk; rw [if_neg (by omega), if_pos q0]
    have hn : kNum q = nI q.2.2.1 := by unfold kNum; rw [if_pos (Or.inr (Or.inr q0))]
    have ho : kOth q = nI q.2.2.2 := by unfold kOth; rw [if_pos (Or.inr q0)]
    have h7 := hk.2.2.2.1 q0
    have hbs := hD.2.2.1
    rw [hst]
    refine j_aload_n dX3_doStroke_230 rfl ?_
    refine j_aload_n dX3_doStroke_231 rfl ?_
    refine j_get 5 dX3_doStroke_232 (by first | rfl | assumption) in_X3 rfl (by decide) q1104 rfl ?_
    refine j_iconst (v := 4) dX3_doStroke_235 (by decide) ?_
    refine j_iload_n dX3_doStroke_236 rfl ?_
    refine j_imul dX3_doStroke_237 ?_
    refine j_iconst (v := 2) dX3_doStroke_238 (by decide) ?_
    refine j_iadd dX3_doStroke_239 ?_
    refine j_iald 0 (4 * k + 2) dX3_doStroke_240 (by first | rfl | assumption) rfl (jx2 k) (by show _ < 36; omega) (by decide) ?_
    refine j_eqi (show _ = nI q.2.2.1 from hq.2.1 (Or.inr (Or.inr q0))) ?_
    refine j_callVv (m_figure hD ha q.2.2.1 (by omega)) dX3_doStroke_241 pmX3_figure q1316 q1318 qs38 (by first | rfl | assumption) rfl rfl rfl ⟨Nat.le_of_ble_eq_true rfl, Nat.le_of_ble_eq_true rfl⟩ ⟨Nat.le_of_ble_eq_true rfl, Nat.le_of_ble_eq_true rfl⟩ rfl (Nat.le_of_ble_eq_true rfl) ?_
    refine j_aload_n dX3_doStroke_244 rfl ?_
    refine j_aload_n dX3_doStroke_245 rfl ?_
    refine j_get 5 dX3_doStroke_246 (by first | rfl | assumption) in_X3 rfl (by decide) q1104 rfl ?_
    refine j_iconst (v := 4) dX3_doStroke_249 (by decide) ?_
    refine j_iload_n dX3_doStroke_250 rfl ?_
    refine j_imul dX3_doStroke_251 ?_
    refine j_iconst (v := 3) dX3_doStroke_252 (by decide) ?_
    refine j_iadd dX3_doStroke_253 ?_
    refine j_iald 0 (4 * k + 3) dX3_doStroke_254 (by first | rfl | assumption) rfl (jx3 k) (by show _ < 36; omega) (by decide) ?_
    refine j_eqi (show _ = nI q.2.2.2 from hq.2.2 (Or.inr q0)) ?_
    refine j_callVv (m_figure hD (figA_ok hD.pos (by have := hD.2.2.2.1; omega) ha) q.2.2.2 (by omega)) dX3_doStroke_255 pmX3_figure q1316 q1318 qs38 (by first | rfl | assumption) rfl rfl rfl ⟨Nat.le_of_ble_eq_true rfl, Nat.le_of_ble_eq_true rfl⟩ ⟨Nat.le_of_ble_eq_true rfl, Nat.le_of_ble_eq_true rfl⟩ rfl (Nat.le_of_ble_eq_true rfl) ?_
    refine j_vret dX3_doStroke_258 rfl (Nat.le_refl _) (Nat.le_refl _) ?_
    exact jr_v rfl
