set_option maxRecDepth 100000
theorem mdS_L {r : Nat → Nat} {dT : Nat → ClassId} {g : j_H} {kI : Int32} {bs fg m nk w x s t : Nat} {F : Nat → Nat} {tk : Int64} {V : Nat → Nat → Int32} {i v : Nat} : j_set (mdS r dT g kI bs fg m nk w x s t F tk V) 107 (.inl (dT 3, 2, .inr (.inl (vp_updL (fun j => lN (F (j + 100))) i (lN v))))) = mdS r dT g kI bs fg m nk w x s t (va_up F (i + 100) v) tk V := by
  funext k
  by_cases hk : k = 107
  · subst hk
    rw [j_set_self, mdS_in (by decide) (by decide)]
    refine congrArg (fun z => some (Sum.inl (dT 3, 2, Sum.inr (Sum.inl z)))) (funext fun j => ?_)
    by_cases hj : j = i
    · subst hj; rw [va_up_self]; simp [vp_updL]
    · rw [va_up_ne _ _ (by omega)]; simp [vp_updL, hj]
  · rw [j_set_ne hk]
    by_cases h0 : k = 100
    · subst h0
      rw [mdS_in (by decide) (by decide), mdS_in (by decide) (by decide)]
      show mdG r dT kI bs fg m nk w x s t F tk 0 _ = mdG r dT kI bs fg m nk w x s t (va_up F (i + 100) v) tk 0 _
      unfold mdG
      simp only [va_up_ne F v (show (6 : Nat) ≠ i + 100 by omega), va_up_ne F v (show (8 : Nat) ≠ i + 100 by omega), va_up_ne F v (show (9 : Nat) ≠ i + 100 by omega), va_up_ne F v (show (11 : Nat) ≠ i + 100 by omega), va_up_ne F v (show (12 : Nat) ≠ i + 100 by omega), va_up_ne F v (show (13 : Nat) ≠ i + 100 by omega), va_up_ne F v (show (14 : Nat) ≠ i + 100 by omega), va_up_ne F v (show (15 : Nat) ≠ i + 100 by omega), va_up_ne F v (show (16 : Nat) ≠ i + 100 by omega), va_up_ne F v (show (17 : Nat) ≠ i + 100 by omega), va_up_ne F v (show (18 : Nat) ≠ i + 100 by omega), va_up_ne F v (show (19 : Nat) ≠ i + 100 by omega), va_up_ne F v (show (25 : Nat) ≠ i + 100 by omega), va_up_ne F v (show (26 : Nat) ≠ i + 100 by omega), va_up_ne F v (show (27 : Nat) ≠ i + 100 by omega), va_up_ne F v (show (29 : Nat) ≠ i + 100 by omega)]
    · by_cases hin : 100 ≤ k ∧ k < 116
      · rw [mdS_in hin.1 hin.2, mdS_in hin.1 hin.2]
        unfold mdG
        split
        all_goals first
          | rfl
          | (exfalso; omega)
      · rw [mdS_out (by omega), mdS_out (by omega)]
section MDL
variable {G : j_G} {cc : ByteArray} {own : String} {nL : Nat} {ret : Option FieldType} {nm : String} {R : Room} {xt : Code → Prop} {Q : j_Q} {mc ms cells slots : Nat} {nx pc : Nat} {L : List (Option Value)} {st : List Value} {r : Nat → Nat} {dT : Nat → ClassId} {g : j_H} {kI : Int32} {bs fg m nk w x s t : Nat} {F : Nat → Nat} {tk : Int64} {V : Nat → Nat → Int32}
theorem j_mdL {i v : Nat} (k : J G (cc, own, nL, ret, nm, R, xt) Q mc ms cells slots r (mdS r dT g kI bs fg m nk w x s t (va_up F (i + 100) v) tk V) nx pc L st) : J G (cc, own, nL, ret, nm, R, xt) Q mc ms cells slots r (j_set (mdS r dT g kI bs fg m nk w x s t F tk V) 107 (.inl (dT 3, 2, .inr (.inl (vp_updL (fun j => lN (F (j + 100))) i (lN v)))))) nx pc L st := by
  rw [mdS_L]; exact k
end MDL
/-- what an image holds: state, spent, how many targets, they -/
def imR (i e sp tn : Nat) (tg f0 f : Nat → Int32) : Prop := f (9 * i) = nI e ∧ f (9 * i + 1) = nI sp ∧ f (9 * i + 2) = nI tn ∧ (∀ k, k < 6 → f (9 * i + 3 + k) = tg k) ∧ ∀ q, q < 9 * i ∨ 9 * i + 9 ≤ q → f q = f0 q
theorem ix0 (i : Nat) : (9 : Int32) * nI i = nI (9 * i) := by rw [show (9 : Int32) = nI 9 from rfl, pk_mul]
theorem ix1 (i : Nat) : (9 : Int32) * nI i + 1 = nI (9 * i + 1) := by rw [ix0, nI_1]
theorem ix2 (i : Nat) : (9 : Int32) * nI i + 2 = nI (9 * i + 2) := by rw [ix0, show (2 : Int32) = nI 2 from rfl, nI_add]
theorem ix3 (i k : Nat) : (9 : Int32) * nI i + 3 + nI k = nI (9 * i + 3 + k) := by rw [ix0, show (3 : Int32) = nI 3 from rfl, nI_add, nI_add]
def q_keep (i e : Nat) (r : Nat → Nat) (dT : Nat → ClassId) (g : j_H) (kI : Int32) (bs fg m nk : Nat) (a : A4) (F : Nat → Nat) (tk : Int64) (V : Nat → Nat → Int32) (nx : Nat) : j_Q := fun o r' h' nx' => o = .returned (some (.int 1)) ∧ r' = r ∧ nx' = nx ∧ ∃ f : Nat → Int32, h' = mdS r dT g kI bs fg m nk a.1 a.2.1 a.2.2.1 a.2.2.2 (va_up F (i + 100) (F 26)) tk (vo V [(106, f), (108, upd (V 108) i 1)]) ∧ imR i e (F 25) (F 27) (V 104) (V 106) f
set_option maxHeartbeats 4000000 in
theorem m_keep1 {l : Launch} {D : va_G} {dT : Nat → ClassId} {H0 : Heap} {r : Nat → Nat} {nx : Nat} {g : j_H} {kI : Int32} {bs fg m nk : Nat} {a : A4} {F : Nat → Nat} {tk : Int64} {V : Nat → Nat → Int32} (i : Nat) (hi : i ≤ 1) (ht : a.2.2.2 < 2) : MC (gG l D dT H0) yX3_keep cX3_keep 3 (some .int) 1 0 0 [.ref (r 100), .int (nI i)] r (mdS r dT g kI bs fg m nk a.1 a.2.1 a.2.2.1 a.2.2.2 F tk V) nx (q_keep i (encM m a) r dT g kI bs fg m nk a F tk V nx) := by
  refine MC.ofJ [some (.ref (r 100)), some (.int (nI i)), none] rfl (Nat.le_of_ble_eq_true rfl) (by decide) ?_
  refine j_re rfl rfl (h' := (mdS r dT g kI bs fg m nk a.1 a.2.1 a.2.2.1 a.2.2.2 F tk (vo V [(106, V 106), (108, V 108)]))) (by rw [vo_same _ (by simp)]) ?_
  refine j_iload_n dX3_keep_0 rfl ?_
  refine j_iconst (v := 0) dX3_keep_1 (by decide) ?_
  refine j_iconst (v := 1) dX3_keep_2 (by decide) ?_
  refine j_callSi (c_X3_in _ _ _) dX3_keep_3 pmX3_in q1228 q1229 rfl ⟨Nat.le_of_ble_eq_true rfl, Nat.le_of_ble_eq_true rfl⟩ ⟨Nat.le_of_ble_eq_true rfl, Nat.le_of_ble_eq_true rfl⟩ rfl (Nat.le_of_ble_eq_true rfl) ?_
  refine j_ifb_ne (tgt := 12) dX3_keep_6 (by decide) (fun c6 => ?_) (fun c6 => absurd ⟨nI_pos' (by omega), nI_le (b := 1) hi (by decide)⟩ c6)
  refine j_aload_n dX3_keep_12 rfl ?_
  refine j_get 31 dX3_keep_13 (by first | rfl | assumption) in_X3 rfl (by decide) q1130 rfl ?_
  refine j_bipush (v := 9) dX3_keep_16 (by decide) ?_
  refine j_iload_n dX3_keep_18 rfl ?_
  refine j_imul dX3_keep_19 ?_
  refine j_aload_n dX3_keep_20 rfl ?_
  refine j_callVi (m_stateNow ht) dX3_keep_21 pmX3_stateNow q1344 q1346 qs43 (by first | rfl | assumption) rfl rfl rfl ⟨Nat.le_of_ble_eq_true rfl, Nat.le_of_ble_eq_true rfl⟩ ⟨Nat.le_of_ble_eq_true rfl, Nat.le_of_ble_eq_true rfl⟩ rfl (Nat.le_of_ble_eq_true rfl) ?_
  refine j_iast 0 (9 * i) dX3_keep_24 (by first | rfl | assumption) rfl (ix0 i) (by show _ < 18; omega) (by decide) ?_
  refine j_mdW (f := _) (by decide) (by decide) rfl ?_
  refine j_aload_n dX3_keep_25 rfl ?_
  refine j_get 31 dX3_keep_26 (by first | rfl | assumption) in_X3 rfl (by decide) q1130 rfl ?_
  refine j_bipush (v := 9) dX3_keep_29 (by decide) ?_
  refine j_iload_n dX3_keep_31 rfl ?_
  refine j_imul dX3_keep_32 ?_
  refine j_iconst (v := 1) dX3_keep_33 (by decide) ?_
  refine j_iadd dX3_keep_34 ?_
  refine j_aload_n dX3_keep_35 rfl ?_
  refine j_get 25 dX3_keep_36 (by first | rfl | assumption) in_X3 rfl (by decide) q1124 rfl ?_
  refine j_iast 0 (9 * i + 1) dX3_keep_39 (by first | rfl | assumption) rfl (ix1 i) (by show _ < 18; omega) (by decide) ?_
  refine j_mdW (f := _) (by decide) (by decide) rfl ?_
  refine j_aload_n dX3_keep_40 rfl ?_
  refine j_get 31 dX3_keep_41 (by first | rfl | assumption) in_X3 rfl (by decide) q1130 rfl ?_
  refine j_bipush (v := 9) dX3_keep_44 (by decide) ?_
  refine j_iload_n dX3_keep_46 rfl ?_
  refine j_imul dX3_keep_47 ?_
  refine j_iconst (v := 2) dX3_keep_48 (by decide) ?_
  refine j_iadd dX3_keep_49 ?_
  refine j_aload_n dX3_keep_50 rfl ?_
  refine j_get 27 dX3_keep_51 (by first | rfl | assumption) in_X3 rfl (by decide) q1126 rfl ?_
  refine j_iast 0 (9 * i + 2) dX3_keep_54 (by first | rfl | assumption) rfl (ix2 i) (by show _ < 18; omega) (by decide) ?_
  refine j_mdW (f := _) (by decide) (by decide) rfl ?_
  refine j_iconst (v := 0) dX3_keep_55 (by decide) ?_
  refine j_istore_n dX3_keep_56 (by decide) rfl ?_
  refine j_less (L' := [some (.ref (r 100)), some (.int (nI i)), some (.int (nI 0))]) ⟨Or.inr rfl, Or.inr rfl, Or.inr rfl, trivial⟩ ?_
  refine j_lp2 (fun (k : Nat) (f : Nat → Int32) => (mdS r dT g kI bs fg m nk a.1 a.2.1 a.2.2.1 a.2.2.2 F tk (vo V [(106, f), (108, V 108)]))) (fun k _ => [some (.ref (r 100)), some (.int (nI i)), some (.int (nI k))]) (fun k f => k ≤ 6 ∧ f (9 * i) = nI (encM m a) ∧ f (9 * i + 1) = nI (F 25) ∧ f (9 * i + 2) = nI (F 27) ∧ (∀ q, q < k → f (9 * i + 3 + q) = V 104 q) ∧ ∀ q, q < 9 * i ∨ 9 * i + 9 ≤ q → f q = V 106 q) (fun k _ => 6 - k) ?_ 0 _ ⟨Nat.zero_le _, (pk_un (by omega)).trans ((pk_un (by omega)).trans pk_us), (pk_un (by omega)).trans pk_us, pk_us, (fun q hq => absurd hq (Nat.not_lt_zero _)), fun q hq => (pk_un (by omega)).trans ((pk_un (by omega)).trans (pk_un (by omega)))⟩
  intro k f ⟨hk, f0, f1, f2, f3, f4⟩ ih
  refine j_iload_n dX3_keep_57 rfl ?_
  refine j_bipush (v := 6) dX3_keep_58 (by decide) ?_
  refine j_icmp_ge (tgt := 88) dX3_keep_60 (by decide) (fun c60 => ?_) (fun c60 => ?_)
  · skip
    have hk6 : k = 6 := by
      have := (nI_leI (by decide) (by omega)).mp (show nI 6 ≤ nI k from c60)
      omega
    subst hk6
    refine j_aload_n dX3_keep_88 rfl ?_
    refine j_get 32 dX3_keep_89 (by first | rfl | assumption) in_X3 rfl (by decide) q1131 rfl ?_
    refine j_iload_n dX3_keep_92 rfl ?_
    refine j_aload_n dX3_keep_93 rfl ?_
    refine j_get 26 dX3_keep_94 (by first | rfl | assumption) in_X3 rfl (by decide) q1125 rfl ?_
    refine j_last 3 i dX3_keep_97 (by first | rfl | assumption) rfl rfl (by show i < 2; omega) (by decide) ?_
    refine j_mdL ?_
    refine j_aload_n dX3_keep_98 rfl ?_
    refine j_get 33 dX3_keep_99 (by first | rfl | assumption) in_X3 rfl (by decide) q1132 rfl ?_
    refine j_iload_n dX3_keep_102 rfl ?_
    refine j_iconst (v := 1) dX3_keep_103 (by decide) ?_
    refine j_zast 2 i dX3_keep_104 (by first | rfl | assumption) rfl rfl (by show i < 2; omega) (by decide) ?_
    refine j_mdW (f := upd (V 108) i 1) (by decide) (by decide) rfl ?_
    refine j_iconst (v := 1) dX3_keep_105 (by decide) ?_
    refine j_iret dX3_keep_106 rfl rfl (Nat.le_refl _) (Nat.le_refl _) ?_
    exact ⟨rfl, rfl, rfl, f, rfl, f0, f1, f2, f3, f4⟩
  · skip
    have hk6 : k < 6 := Nat.lt_of_not_le (fun q => c60 (show nI 6 ≤ nI k from nI_le q (by omega)))
    refine j_aload_n dX3_keep_63 rfl ?_
    refine j_get 31 dX3_keep_64 (by first | rfl | assumption) in_X3 rfl (by decide) q1130 rfl ?_
    refine j_bipush (v := 9) dX3_keep_67 (by decide) ?_
    refine j_iload_n dX3_keep_69 rfl ?_
    refine j_imul dX3_keep_70 ?_
    refine j_iconst (v := 3) dX3_keep_71 (by decide) ?_
    refine j_iadd dX3_keep_72 ?_
    refine j_iload_n dX3_keep_73 rfl ?_
    refine j_iadd dX3_keep_74 ?_
    refine j_aload_n dX3_keep_75 rfl ?_
    refine j_get 28 dX3_keep_76 (by first | rfl | assumption) in_X3 rfl (by decide) q1127 rfl ?_
    refine j_iload_n dX3_keep_79 rfl ?_
    refine j_iald 0 k dX3_keep_80 (by first | rfl | assumption) rfl rfl (by show k < 6; omega) (by decide) ?_
    refine j_iast 0 (9 * i + 3 + k) dX3_keep_81 (by first | rfl | assumption) rfl (ix3 i k) (by show _ < 18; omega) (by decide) ?_
    refine j_mdW (f := _) (by decide) (by decide) rfl ?_
    refine j_iinc dX3_keep_82 rfl (by decide) rfl ?_
    refine j_goto (tgt := 57) dX3_keep_85 (by decide) ?_
    refine j_less (L' := [some (.ref (r 100)), some (.int (nI i)), some (.int (nI (k + 1)))]) ⟨Or.inr rfl, Or.inr rfl, Or.inr (by rw [← nI_inc]), trivial⟩ ?_
    refine ih (k + 1) _ ⟨by omega, (pk_un (by omega)).trans f0, (pk_un (by omega)).trans f1, (pk_un (by omega)).trans f2, (fun q hq => ?_), fun q hq => (pk_un (by omega)).trans (f4 q hq)⟩ (by omega)
    by_cases he : q = k
    · subst he; exact pk_us
    · exact (pk_un (by omega)).trans (f3 q (by omega))
set_option maxHeartbeats 4000000 in
theorem m_keep0 {l : Launch} {D : va_G} {dT : Nat → ClassId} {H0 : Heap} {r : Nat → Nat} {nx : Nat} {g : j_H} {kI : Int32} {bs fg m nk w x s t : Nat} {F : Nat → Nat} {tk : Int64} {V : Nat → Nat → Int32} (v : Int32) (hv : ¬ (0 ≤ v ∧ v ≤ 1)) : MC (gG l D dT H0) yX3_keep cX3_keep 3 (some .int) 1 0 0 [.ref (r 100), .int v] r (mdS r dT g kI bs fg m nk w x s t F tk V) nx (jq_i (-1000000001) r (mdS r dT g kI bs fg m nk w x s t F tk V) nx) := by
  refine MC.ofJ [some (.ref (r 100)), some (.int v), none] rfl (Nat.le_of_ble_eq_true rfl) (by decide) ?_
  refine j_iload_n dX3_keep_0 rfl ?_
  refine j_iconst (v := 0) dX3_keep_1 (by decide) ?_
  refine j_iconst (v := 1) dX3_keep_2 (by decide) ?_
  refine j_callSi (c_X3_in _ _ _) dX3_keep_3 pmX3_in q1228 q1229 rfl ⟨Nat.le_of_ble_eq_true rfl, Nat.le_of_ble_eq_true rfl⟩ ⟨Nat.le_of_ble_eq_true rfl, Nat.le_of_ble_eq_true rfl⟩ rfl (Nat.le_of_ble_eq_true rfl) ?_
  refine j_ifb_ne (tgt := 12) dX3_keep_6 (by decide) (fun c6 => absurd c6 hv) (fun c6 => ?_)
  refine j_ldc dX3_keep_9 q1307 ?_
  refine j_iret dX3_keep_11 rfl rfl (Nat.le_refl _) (Nat.le_refl _) ?_
  exact ⟨rfl, rfl, rfl, rfl⟩
def q_back (i e sp tn : Nat) (r : Nat → Nat) (dT : Nat → ClassId) (g : j_H) (kI : Int32) (bs fg m nk : Nat) (F : Nat → Nat) (tk : Int64) (V : Nat → Nat → Int32) (nx : Nat) : j_Q := fun o r' h' nx' => o = .returned (some (.int 1)) ∧ r' = r ∧ nx' = nx ∧ ∃ f : Nat → Int32, h' = (mdS r dT g kI bs fg m nk (decM m e).1 (decM m e).2.1 (decM m e).2.2.1 (decM m e).2.2.2 (va_up (va_up (va_up F 25 sp) 27 tn) 26 (F (i + 100))) tk (vo V [(104, f)])) ∧ ∀ k, k < 6 → f k = V 106 (9 * i + 3 + k)
set_option maxHeartbeats 4000000 in
theorem m_goBack1 {l : Launch} {D : va_G} {dT : Nat → ClassId} {H0 : Heap} {r : Nat → Nat} {nx : Nat} {g : j_H} {kI : Int32} {bs fg m nk w x s t : Nat} {F : Nat → Nat} {tk : Int64} {V : Nat → Nat → Int32} (i e sp tn : Nat) (hi : i ≤ 1) (hm : 0 < m) (hm2 : m ≤ 100) (h8 : V 108 i = 1) (h0 : V 106 (9 * i) = nI e) (he : e < 2 ^ 31) (h1 : V 106 (9 * i + 1) = nI sp) (h2 : V 106 (9 * i + 2) = nI tn) : MC (gG l D dT H0) yX3_goBack cX3_goBack 3 (some .int) 1 0 0 [.ref (r 100), .int (nI i)] r (mdS r dT g kI bs fg m nk w x s t F tk V) nx (q_back i e sp tn r dT g kI bs fg m nk F tk V nx) := by
  refine MC.ofJ [some (.ref (r 100)), some (.int (nI i)), none] rfl (Nat.le_of_ble_eq_true rfl) (by decide) ?_
  refine j_re rfl rfl (h' := (mdS r dT g kI bs fg m nk w x s t F tk (vo V [(104, V 104)]))) (by rw [vo_same _ (by simp)]) ?_
  refine j_iload_n dX3_goBack_0 rfl ?_
  refine j_iconst (v := 0) dX3_goBack_1 (by decide) ?_
  refine j_iconst (v := 1) dX3_goBack_2 (by decide) ?_
  refine j_callSi (c_X3_in _ _ _) dX3_goBack_3 pmX3_in q1228 q1229 rfl ⟨Nat.le_of_ble_eq_true rfl, Nat.le_of_ble_eq_true rfl⟩ ⟨Nat.le_of_ble_eq_true rfl, Nat.le_of_ble_eq_true rfl⟩ rfl (Nat.le_of_ble_eq_true rfl) ?_
  refine j_ifb_ne (tgt := 12) dX3_goBack_6 (by decide) (fun c6 => ?_) (fun c6 => absurd ⟨nI_pos' (by omega), nI_le (b := 1) hi (by decide)⟩ c6)
  refine j_aload_n dX3_goBack_12 rfl ?_
  refine j_get 33 dX3_goBack_13 (by first | rfl | assumption) in_X3 rfl (by decide) q1132 rfl ?_
  refine j_iload_n dX3_goBack_16 rfl ?_
  refine j_zald 2 i dX3_goBack_17 (by first | rfl | assumption) rfl rfl (by show i < 2; omega) (by decide) ?_
  refine j_eqi (show _ = 1 from h8) ?_
  refine j_if_ne (tgt := 25) dX3_goBack_18 (by decide) (fun c18 => ?_) (fun c18 => absurd c18 (by decide))
  refine j_aload_n dX3_goBack_25 rfl ?_
  refine j_aload_n dX3_goBack_26 rfl ?_
  refine j_get 31 dX3_goBack_27 (by first | rfl | assumption) in_X3 rfl (by decide) q1130 rfl ?_
  refine j_bipush (v := 9) dX3_goBack_30 (by decide) ?_
  refine j_iload_n dX3_goBack_32 rfl ?_
  refine j_imul dX3_goBack_33 ?_
  refine j_iald 0 (9 * i) dX3_goBack_34 (by first | rfl | assumption) rfl (ix0 i) (by show _ < 18; omega) (by decide) ?_
  refine j_eqi (show _ = nI e from h0) ?_
  refine j_callVv (m_setState hm hm2 e he) dX3_goBack_35 pmX3_setState q1360 q1362 qs47 (by first | rfl | assumption) rfl rfl rfl ⟨Nat.le_of_ble_eq_true rfl, Nat.le_of_ble_eq_true rfl⟩ ⟨Nat.le_of_ble_eq_true rfl, Nat.le_of_ble_eq_true rfl⟩ rfl (Nat.le_of_ble_eq_true rfl) ?_
  refine j_aload_n dX3_goBack_38 rfl ?_
  refine j_aload_n dX3_goBack_39 rfl ?_
  refine j_get 31 dX3_goBack_40 (by first | rfl | assumption) in_X3 rfl (by decide) q1130 rfl ?_
  refine j_bipush (v := 9) dX3_goBack_43 (by decide) ?_
  refine j_iload_n dX3_goBack_45 rfl ?_
  refine j_imul dX3_goBack_46 ?_
  refine j_iconst (v := 1) dX3_goBack_47 (by decide) ?_
  refine j_iadd dX3_goBack_48 ?_
  refine j_iald 0 (9 * i + 1) dX3_goBack_49 (by first | rfl | assumption) rfl (ix1 i) (by show _ < 18; omega) (by decide) ?_
  refine j_eqi (show _ = nI sp from h1) ?_
  refine j_put 25 dX3_goBack_50 (by first | rfl | assumption) in_X3 tyX3_ok nmX3 rfl (by decide) q1124 rfl rfl rfl (by first | decide | simp) ?_
  refine j_mdF (q := 25) (v := sp) (by decide) rfl ?_
  refine j_aload_n dX3_goBack_53 rfl ?_
  refine j_aload_n dX3_goBack_54 rfl ?_
  refine j_get 31 dX3_goBack_55 (by first | rfl | assumption) in_X3 rfl (by decide) q1130 rfl ?_
  refine j_bipush (v := 9) dX3_goBack_58 (by decide) ?_
  refine j_iload_n dX3_goBack_60 rfl ?_
  refine j_imul dX3_goBack_61 ?_
  refine j_iconst (v := 2) dX3_goBack_62 (by decide) ?_
  refine j_iadd dX3_goBack_63 ?_
  refine j_iald 0 (9 * i + 2) dX3_goBack_64 (by first | rfl | assumption) rfl (ix2 i) (by show _ < 18; omega) (by decide) ?_
  refine j_eqi (show _ = nI tn from h2) ?_
  refine j_put 27 dX3_goBack_65 (by first | rfl | assumption) in_X3 tyX3_ok nmX3 rfl (by decide) q1126 rfl rfl rfl (by first | decide | simp) ?_
  refine j_mdF (q := 27) (v := tn) (by decide) rfl ?_
  refine j_iconst (v := 0) dX3_goBack_68 (by decide) ?_
  refine j_istore_n dX3_goBack_69 (by decide) rfl ?_
  refine j_less (L' := [some (.ref (r 100)), some (.int (nI i)), some (.int (nI 0))]) ⟨Or.inr rfl, Or.inr rfl, Or.inr rfl, trivial⟩ ?_
  refine j_lp2 (fun (k : Nat) (f : Nat → Int32) => (mdS r dT g kI bs fg m nk (decM m e).1 (decM m e).2.1 (decM m e).2.2.1 (decM m e).2.2.2 (va_up (va_up F 25 sp) 27 tn) tk (vo V [(104, f)]))) (fun k _ => [some (.ref (r 100)), some (.int (nI i)), some (.int (nI k))]) (fun k f => k ≤ 6 ∧ ∀ q, q < k → f q = V 106 (9 * i + 3 + q)) (fun k _ => 6 - k) ?_ 0 (V 104) ⟨Nat.zero_le _, fun q hq => absurd hq (Nat.not_lt_zero _)⟩
  intro k f ⟨hk, hf⟩ ih
  refine j_iload_n dX3_goBack_70 rfl ?_
  refine j_bipush (v := 6) dX3_goBack_71 (by decide) ?_
  refine j_icmp_ge (tgt := 101) dX3_goBack_73 (by decide) (fun c73 => ?_) (fun c73 => ?_)
  · skip
    have hk6 : k = 6 := by
      have := (nI_leI (by decide) (by omega)).mp (show nI 6 ≤ nI k from c73)
      omega
    subst hk6
    refine j_aload_n dX3_goBack_101 rfl ?_
    refine j_aload_n dX3_goBack_102 rfl ?_
    refine j_get 32 dX3_goBack_103 (by first | rfl | assumption) in_X3 rfl (by decide) q1131 rfl ?_
    refine j_iload_n dX3_goBack_106 rfl ?_
    refine j_lald 3 i dX3_goBack_107 (by first | rfl | assumption) rfl rfl (by show i < 2; omega) (by decide) ?_
    refine j_eql (show _ = lN (F (i + 100)) by rw [va_up_ne _ _ (by omega), va_up_ne _ _ (by omega)]) ?_
    refine j_put 26 dX3_goBack_108 (by first | rfl | assumption) in_X3 tyX3_ok nmX3 rfl (by decide) q1125 rfl rfl rfl (by first | decide | simp) ?_
    refine j_mdF (q := 26) (v := (F (i + 100))) (by decide) rfl ?_
    refine j_iconst (v := 1) dX3_goBack_111 (by decide) ?_
    refine j_iret dX3_goBack_112 rfl rfl (Nat.le_refl _) (Nat.le_refl _) ?_
    exact ⟨rfl, rfl, rfl, f, rfl, hf⟩
  · skip
    have hk6 : k < 6 := Nat.lt_of_not_le (fun q => c73 (show nI 6 ≤ nI k from nI_le q (by omega)))
    refine j_aload_n dX3_goBack_76 rfl ?_
    refine j_get 28 dX3_goBack_77 (by first | rfl | assumption) in_X3 rfl (by decide) q1127 rfl ?_
    refine j_iload_n dX3_goBack_80 rfl ?_
    refine j_aload_n dX3_goBack_81 rfl ?_
    refine j_get 31 dX3_goBack_82 (by first | rfl | assumption) in_X3 rfl (by decide) q1130 rfl ?_
    refine j_bipush (v := 9) dX3_goBack_85 (by decide) ?_
    refine j_iload_n dX3_goBack_87 rfl ?_
    refine j_imul dX3_goBack_88 ?_
    refine j_iconst (v := 3) dX3_goBack_89 (by decide) ?_
    refine j_iadd dX3_goBack_90 ?_
    refine j_iload_n dX3_goBack_91 rfl ?_
    refine j_iadd dX3_goBack_92 ?_
    refine j_iald 0 (9 * i + 3 + k) dX3_goBack_93 (by first | rfl | assumption) rfl (ix3 i k) (by show _ < 18; omega) (by decide) ?_
    refine j_iast 0 k dX3_goBack_94 (by first | rfl | assumption) rfl rfl (by show k < 6; omega) (by decide) ?_
    refine j_mdW (f := _) (by decide) (by decide) rfl ?_
    refine j_iinc dX3_goBack_95 rfl (by decide) rfl ?_
    refine j_goto (tgt := 70) dX3_goBack_98 (by decide) ?_
    refine j_less (L' := [some (.ref (r 100)), some (.int (nI i)), some (.int (nI (k + 1)))]) ⟨Or.inr rfl, Or.inr rfl, Or.inr (by rw [← nI_inc]), trivial⟩ ?_
    refine ih (k + 1) _ ⟨by omega, fun q hq => ?_⟩ (by omega)
    by_cases hqk : q = k
    · subst hqk; exact pk_us
    · exact (pk_un hqk).trans (hf q (by omega))
set_option maxHeartbeats 4000000 in
theorem m_goBack0 {l : Launch} {D : va_G} {dT : Nat → ClassId} {H0 : Heap} {r : Nat → Nat} {nx : Nat} {g : j_H} {kI : Int32} {bs fg m nk w x s t : Nat} {F : Nat → Nat} {tk : Int64} {V : Nat → Nat → Int32} (v : Int32) (hv : ¬ (0 ≤ v ∧ v ≤ 1)) : MC (gG l D dT H0) yX3_goBack cX3_goBack 3 (some .int) 1 0 0 [.ref (r 100), .int v] r (mdS r dT g kI bs fg m nk w x s t F tk V) nx (jq_i (-1000000001) r (mdS r dT g kI bs fg m nk w x s t F tk V) nx) := by
  refine MC.ofJ [some (.ref (r 100)), some (.int v), none] rfl (Nat.le_of_ble_eq_true rfl) (by decide) ?_
  refine j_iload_n dX3_goBack_0 rfl ?_
  refine j_iconst (v := 0) dX3_goBack_1 (by decide) ?_
  refine j_iconst (v := 1) dX3_goBack_2 (by decide) ?_
  refine j_callSi (c_X3_in _ _ _) dX3_goBack_3 pmX3_in q1228 q1229 rfl ⟨Nat.le_of_ble_eq_true rfl, Nat.le_of_ble_eq_true rfl⟩ ⟨Nat.le_of_ble_eq_true rfl, Nat.le_of_ble_eq_true rfl⟩ rfl (Nat.le_of_ble_eq_true rfl) ?_
  refine j_ifb_ne (tgt := 12) dX3_goBack_6 (by decide) (fun c6 => absurd c6 hv) (fun c6 => ?_)
  refine j_ldc dX3_goBack_9 q1307 ?_
  refine j_iret dX3_goBack_11 rfl rfl (Nat.le_refl _) (Nat.le_refl _) ?_
  exact ⟨rfl, rfl, rfl, rfl⟩
set_option maxHeartbeats 4000000 in
theorem m_goBackn {l : Launch} {D : va_G} {dT : Nat → ClassId} {H0 : Heap} {r : Nat → Nat} {nx : Nat} {g : j_H} {kI : Int32} {bs fg m nk w x s t : Nat} {F : Nat → Nat} {tk : Int64} {V : Nat → Nat → Int32} (i : Nat) (hi : i ≤ 1) (h8 : V 108 i = 0) : MC (gG l D dT H0) yX3_goBack cX3_goBack 3 (some .int) 1 0 0 [.ref (r 100), .int (nI i)] r (mdS r dT g kI bs fg m nk w x s t F tk V) nx (jq_i (-1000000003) r (mdS r dT g kI bs fg m nk w x s t F tk V) nx) := by
  refine MC.ofJ [some (.ref (r 100)), some (.int (nI i)), none] rfl (Nat.le_of_ble_eq_true rfl) (by decide) ?_
  refine j_iload_n dX3_goBack_0 rfl ?_
  refine j_iconst (v := 0) dX3_goBack_1 (by decide) ?_
  refine j_iconst (v := 1) dX3_goBack_2 (by decide) ?_
  refine j_callSi (c_X3_in _ _ _) dX3_goBack_3 pmX3_in q1228 q1229 rfl ⟨Nat.le_of_ble_eq_true rfl, Nat.le_of_ble_eq_true rfl⟩ ⟨Nat.le_of_ble_eq_true rfl, Nat.le_of_ble_eq_true rfl⟩ rfl (Nat.le_of_ble_eq_true rfl) ?_
  refine j_ifb_ne (tgt := 12) dX3_goBack_6 (by decide) (fun c6 => ?_) (fun c6 => absurd ⟨nI_pos' (by omega), nI_le (b := 1) hi (by decide)⟩ c6)
  refine j_aload_n dX3_goBack_12 rfl ?_
  refine j_get 33 dX3_goBack_13 (by first | rfl | assumption) in_X3 rfl (by decide) q1132 rfl ?_
  refine j_iload_n dX3_goBack_16 rfl ?_
  refine j_zald 2 i dX3_goBack_17 (by first | rfl | assumption) rfl rfl (by show i < 2; omega) (by decide) ?_
  refine j_eqi (show _ = 0 from h8) ?_
  refine j_if_ne (tgt := 25) dX3_goBack_18 (by decide) (fun c18 => absurd rfl c18) (fun c18 => ?_)
  refine j_ldcw dX3_goBack_21 q1392 ?_
  refine j_iret dX3_goBack_24 rfl rfl (Nat.le_refl _) (Nat.le_refl _) ?_
  exact ⟨rfl, rfl, rfl, rfl⟩
