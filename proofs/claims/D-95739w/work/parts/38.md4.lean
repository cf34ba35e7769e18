set_option maxRecDepth 100000
/-- the same as jdg, on the states themselves -/
def jdgA (stp : Nat → A4 → A4) (bk : Nat → Nat) (bv : Nat → Int32) : Nat → Nat → A4 → Int32
  | 0, _, _ => -1
  | n + 1, i, a => if nI (stp (bk i) a).2.2.1 = bv i then jdgA stp bk bv n (i + 1) (stp (bk i) a) else nI i
/-- the keys stand in the model's array -/
def mdKs (f : Nat → Int32) (bs m K : Nat) (ks : Nat → KY) : Prop := ∀ k, k < K → mdQ f k (ks k) ∧ okK bs m (ks k)
def mdKw (f : Nat → Int32) (bs m K : Nat) (ks : Nat → KY) : Prop := ∀ k, k < K → mdQw f k (ks k) ∧ okK bs m (ks k)
theorem mdKs.w {f : Nat → Int32} {bs m K : Nat} {ks : Nat → KY} (h : mdKs f bs m K ks) : mdKw f bs m K ks := fun k hk => ⟨(h k hk).1.w, (h k hk).2⟩
set_option maxHeartbeats 4000000 in
theorem m_judge {l : Launch} {D : va_G} {dT : Nat → ClassId} {H0 : Heap} {r : Nat → Nat} {nx : Nat} {g : j_H} {kd bs fg m nk : Nat} {a : A4} {F : Nat → Nat} {tk : Int64} {V : Nat → Nat → Int32} (hD : okD kd bs m) (ha : okA m a) {ks : Nat → KY} (hks : mdKs (V 101) bs m nk ks) (hn8 : nk ≤ 8) (bk : Nat → Nat) (bv : Nat → Int32) (hbk : ∀ i, i < F 29 → V 105 (2 * i) = nI (bk i) ∧ bk i < nk ∧ V 105 (2 * i + 1) = bv i) (hw : F 29 ≤ 40) : MC (gG l D dT H0) yX3_judge cX3_judge 4 (some .int) 4 0 0 [.ref (r 100)] r (mdS r dT g (nI kd) bs fg m nk a.1 a.2.1 a.2.2.1 a.2.2.2 F tk V) nx (jq_i (jdgA (fun k a => stk kd bs m (ks k) a) bk bv (F 29) 0 a) r (mdS r dT g (nI kd) bs fg m nk a.1 a.2.1 a.2.2.1 a.2.2.2 F tk V) nx) := by
  have hm := hD.pos
  have hm2 := hD.le
  have hm3 : 2 ≤ m := by have := hD.2.1; have := hD.2.2.2.1; omega
  have hkd := hD.1
  have hmm := mm_le hm2
  have hel := encM_lt ha
  refine MC.ofJ [some (.ref (r 100)), none, none, none] rfl (Nat.le_of_ble_eq_true rfl) (by decide) ?_
  refine j_aload_n dX3_judge_0 rfl ?_
  refine j_callVi (m_stateNow ha.2.2.2) dX3_judge_1 pmX3_stateNow q1344 q1346 qs43 (by first | rfl | assumption) rfl rfl rfl ⟨Nat.le_of_ble_eq_true rfl, Nat.le_of_ble_eq_true rfl⟩ ⟨Nat.le_of_ble_eq_true rfl, Nat.le_of_ble_eq_true rfl⟩ rfl (Nat.le_of_ble_eq_true rfl) ?_
  refine j_istore_n dX3_judge_4 (by decide) rfl ?_
  refine j_iconst (v := (-1)) dX3_judge_5 (by decide) ?_
  refine j_istore_n dX3_judge_6 (by decide) rfl ?_
  refine j_iconst (v := 0) dX3_judge_7 (by decide) ?_
  refine j_istore_n dX3_judge_8 (by decide) rfl ?_
  refine j_less (L' := [some (.ref (r 100)), some (.int (nI (encM m a))), some (.int (-1)), some (.int (nI 0))]) ⟨Or.inr rfl, Or.inr rfl, Or.inr rfl, Or.inr rfl, trivial⟩ ?_
  refine j_lp4 (fun (i : Nat) (j : Nat) (b : A4) (fd : Int32) => (mdS r dT g (nI kd) bs fg m nk b.1 b.2.1 b.2.2.1 b.2.2.2 F tk V)) (fun i _ _ fd => [some (.ref (r 100)), some (.int (nI (encM m a))), some (.int fd), some (.int (nI i))]) (fun i j b fd => i + j = F 29 ∧ okA m b ∧ ((fd = -1 ∧ jdgA (fun k a => stk kd bs m (ks k) a) bk bv j i b = jdgA (fun k a => stk kd bs m (ks k) a) bk bv (F 29) 0 a) ∨ (¬ fd = -1 ∧ fd = jdgA (fun k a => stk kd bs m (ks k) a) bk bv (F 29) 0 a))) (fun _ j _ _ => j) ?_ 0 (F 29) a (-1) ⟨by omega, ha, Or.inl ⟨rfl, rfl⟩⟩
  intro i j b fd ⟨hij, hb, hj⟩ ih
  refine j_iload_n dX3_judge_9 rfl ?_
  refine j_aload_n dX3_judge_10 rfl ?_
  refine j_get 29 dX3_judge_11 (by first | rfl | assumption) in_X3 rfl (by decide) q1128 rfl ?_
  refine j_icmp_ge (tgt := 63) dX3_judge_14 (by decide) (fun c14 => ?_) (fun c14 => ?_)
  · skip
    have hz : j = 0 := by
      have := (nI_leI (by omega) (by omega)).mp c14
      omega
    subst hz
    have hfd : fd = jdgA (fun k a => stk kd bs m (ks k) a) bk bv (F 29) 0 a := by
      rcases hj with ⟨q1, q2⟩ | ⟨q1, q2⟩
      · rw [q1, ← q2]; rfl
      · exact q2
    refine j_aload_n dX3_judge_63 rfl ?_
    refine j_iload_n dX3_judge_64 rfl ?_
    refine j_callVv (m_setState hm hm2 (encM m a) (by omega)) dX3_judge_65 pmX3_setState q1360 q1362 qs47 (by first | rfl | assumption) rfl rfl rfl ⟨Nat.le_of_ble_eq_true rfl, Nat.le_of_ble_eq_true rfl⟩ ⟨Nat.le_of_ble_eq_true rfl, Nat.le_of_ble_eq_true rfl⟩ rfl (Nat.le_of_ble_eq_true rfl) ?_
    refine j_iload_n dX3_judge_68 rfl ?_
    refine j_iret dX3_judge_69 rfl rfl (Nat.le_refl _) (Nat.le_refl _) ?_
    rw [decM_encM ha]
    exact jr_i hfd
  · skip
    have hin : i < F 29 := Nat.lt_of_not_le (fun q => c14 (nI_le q (by omega)))
    obtain ⟨j, rfl⟩ : ∃ j', j = j' + 1 := ⟨j - 1, by omega⟩
    obtain ⟨hb1, hki, hb2⟩ := hbk i hin
    refine j_iload_n dX3_judge_17 rfl ?_
    refine j_iconst (v := (-1)) dX3_judge_18 (by decide) ?_
    refine j_icmp_ne (tgt := 63) dX3_judge_19 (by decide) (fun c19 => ?_) (fun c19 => ?_)
    · skip
      have hfd : fd = jdgA (fun k a => stk kd bs m (ks k) a) bk bv (F 29) 0 a := by
        rcases hj with ⟨q1, q2⟩ | ⟨q1, q2⟩
        · exact absurd q1 c19
        · exact q2
      refine j_aload_n dX3_judge_63 rfl ?_
      refine j_iload_n dX3_judge_64 rfl ?_
      refine j_callVv (m_setState hm hm2 (encM m a) (by omega)) dX3_judge_65 pmX3_setState q1360 q1362 qs47 (by first | rfl | assumption) rfl rfl rfl ⟨Nat.le_of_ble_eq_true rfl, Nat.le_of_ble_eq_true rfl⟩ ⟨Nat.le_of_ble_eq_true rfl, Nat.le_of_ble_eq_true rfl⟩ rfl (Nat.le_of_ble_eq_true rfl) ?_
      refine j_iload_n dX3_judge_68 rfl ?_
      refine j_iret dX3_judge_69 rfl rfl (Nat.le_refl _) (Nat.le_refl _) ?_
      rw [decM_encM ha]
      exact jr_i hfd
    · skip
      have hj : jdgA (fun k a => stk kd bs m (ks k) a) bk bv (j + 1) i b = jdgA (fun k a => stk kd bs m (ks k) a) bk bv (F 29) 0 a := by
        rcases hj with ⟨q1, q2⟩ | ⟨q1, q2⟩
        · exact q2
        · exact absurd c19 q1
      have hso : okA m (stk kd bs m (ks (bk i)) b) := stk_ok hD (hks _ hki).2 hb
      refine j_aload_n dX3_judge_22 rfl ?_
      refine j_aload_n dX3_judge_23 rfl ?_
      refine j_get 30 dX3_judge_24 (by first | rfl | assumption) in_X3 rfl (by decide) q1129 rfl ?_
      refine j_iconst (v := 2) dX3_judge_27 (by decide) ?_
      refine j_iload_n dX3_judge_28 rfl ?_
      refine j_imul dX3_judge_29 ?_
      refine j_iald 0 (2 * i) dX3_judge_30 (by first | rfl | assumption) rfl (by rw [show (2 : Int32) = nI 2 from rfl, pk_mul]) (by show _ < 80; omega) (by decide) ?_
      refine j_eqi (show _ = nI (bk i) from hb1) ?_
      refine j_callVv (m_doStroke hD hb (bk i) (by omega) (ks (bk i)) (hks _ hki).2 (hks _ hki).1.w) dX3_judge_31 pmX3_doStroke q1312 q1314 qs37 (by first | rfl | assumption) rfl rfl rfl ⟨Nat.le_of_ble_eq_true rfl, Nat.le_of_ble_eq_true rfl⟩ ⟨Nat.le_of_ble_eq_true rfl, Nat.le_of_ble_eq_true rfl⟩ rfl (Nat.le_of_ble_eq_true rfl) ?_
      refine j_aload_n dX3_judge_34 rfl ?_
      refine j_get 21 dX3_judge_35 (by first | rfl | assumption) in_X3 rfl (by decide) q1120 rfl ?_
      refine j_aload_n dX3_judge_38 rfl ?_
      refine j_get 30 dX3_judge_39 (by first | rfl | assumption) in_X3 rfl (by decide) q1129 rfl ?_
      refine j_iconst (v := 2) dX3_judge_42 (by decide) ?_
      refine j_iload_n dX3_judge_43 rfl ?_
      refine j_imul dX3_judge_44 ?_
      refine j_iconst (v := 1) dX3_judge_45 (by decide) ?_
      refine j_iadd dX3_judge_46 ?_
      refine j_iald 0 (2 * i + 1) dX3_judge_47 (by first | rfl | assumption) rfl (by rw [show (2 : Int32) = nI 2 from rfl, pk_mul, nI_1]) (by show _ < 80; omega) (by decide) ?_
      refine j_eqi (show _ = bv i from hb2) ?_
      refine j_icmp_ne (tgt := 55) dX3_judge_48 (by decide) (fun c48 => ?_) (fun c48 => ?_)
      · skip
        have hjj : jdgA (fun k a => stk kd bs m (ks k) a) bk bv (F 29) 0 a = nI i := by rw [← hj]; exact if_neg c48
        refine j_iload_n dX3_judge_55 rfl ?_
        refine j_istore_n dX3_judge_56 (by decide) rfl ?_
        refine j_iinc dX3_judge_57 rfl (by decide) rfl ?_
        refine j_goto (tgt := 9) dX3_judge_60 (by decide) ?_
        refine j_less (L' := [some (.ref (r 100)), some (.int (nI (encM m a))), some (.int (nI i)), some (.int (nI (i + 1)))]) ⟨Or.inr rfl, Or.inr rfl, Or.inr rfl, Or.inr (by rw [← nI_inc]), trivial⟩ ?_
        exact ih (i + 1) j (stk kd bs m (ks (bk i)) b) (nI i) ⟨by omega, hso, Or.inr ⟨nI_m1 (by omega), hjj.symm⟩⟩ (by omega)
      · skip
        have hjj : jdgA (fun k a => stk kd bs m (ks k) a) bk bv j (i + 1) (stk kd bs m (ks (bk i)) b) = jdgA (fun k a => stk kd bs m (ks k) a) bk bv (F 29) 0 a := by rw [← hj]; exact (if_pos c48).symm
        refine j_iconst (v := (-1)) dX3_judge_51 (by decide) ?_
        refine j_goto (tgt := 56) dX3_judge_52 (by decide) ?_
        refine j_istore_n dX3_judge_56 (by decide) rfl ?_
        refine j_iinc dX3_judge_57 rfl (by decide) rfl ?_
        refine j_goto (tgt := 9) dX3_judge_60 (by decide) ?_
        refine j_less (L' := [some (.ref (r 100)), some (.int (nI (encM m a))), some (.int (-1)), some (.int (nI (i + 1)))]) ⟨Or.inr rfl, Or.inr rfl, Or.inr rfl, Or.inr (by rw [← nI_inc]), trivial⟩ ?_
        exact ih (i + 1) j (stk kd bs m (ks (bk i)) b) (-1) ⟨by omega, hso, Or.inl ⟨rfl, hjj⟩⟩ (by omega)
