set_option maxRecDepth 100000
def q_lay (r : Nat → Nat) (dT : Nat → ClassId) (g : j_H) (kI : Int32) (bs fg m nk : Nat) (a : A4) (F : Nat → Nat) (tk : Int64) (V : Nat → Nat → Int32) (nx K : Nat) (L : List BE) : j_Q := fun o r' h' nx' => o = .returned none ∧ r' = r ∧ nx' = nx ∧ ∃ fr ln by' fw fs : Nat → Int32, h' = (mdS r dT g kI bs fg m nk a.1 a.2.1 a.2.2.1 a.2.2.2 F tk (vo V [(109, fr), (110, ln), (111, by'), (113, fw), (114, fs)])) ∧ mRep m L L.length fr ln by' fw fs ∧ bOK m K L
theorem q_lay.isR {r : Nat → Nat} {dT : Nat → ClassId} {g : j_H} {kI : Int32} {bs fg m nk : Nat} {a : A4} {F : Nat → Nat} {tk : Int64} {V : Nat → Nat → Int32} {nx K : Nat} {L : List BE} : j_isR (q_lay r dT g kI bs fg m nk a F tk V nx K L) := fun _ _ _ _ hq => ⟨_, hq.1⟩
theorem mRep_start {m : Nat} {a : A4} {fr ln by' fw fs : Nat → Int32} (ha : okA m a) (hf : ∀ s, s < 8 * m * m → fr s = -1) (hw : ∀ v, v < m → fw v = -1) : mRep m [(a, 0, a, 0)] 0 (upd fr (encM m a) 0) (upd ln 0 (nI (encM m a))) by' fw fs := by
  refine ⟨fun j e hj => ?_, fun s hs hq => ?_, fun j e hj => ?_, fun v hv => ?_, fun v e hv hq => ?_⟩
  · have h0 := (List.getElem?_eq_some_iff.mp hj).1
    simp at h0
    subst h0
    simp at hj
    subst hj
    exact ⟨pk_us, pk_us⟩
  · have hne : s ≠ encM m a := fun q => hq _ (List.mem_singleton.mpr rfl) q.symm
    rw [pk_un hne]
    exact hf s hs
  · simp at hj
  · rw [hw v hv]; rfl
  · simp [bFst] at hq
set_option maxHeartbeats 4000000 in
theorem m_layFewest {l : Launch} {D : va_G} {dT : Nat → ClassId} {H0 : Heap} {r : Nat → Nat} {nx : Nat} {g : j_H} {kd bs fg m nk : Nat} {a : A4} {F : Nat → Nat} {tk : Int64} {V : Nat → Nat → Int32} (hD : okD kd bs m) (ha : okA m a) {K : Nat} {ks : Nat → KY} (hks : mdKw (V 101) bs m K ks) (hK9 : K ≤ 9) : MC (gG l D dT H0) yX3_layFewest cX3_layFewest 9 none 5 0 0 [.ref (r 100), .int (nI K)] r (mdS r dT g (nI kd) bs fg m nk a.1 a.2.1 a.2.2.1 a.2.2.2 F tk V) nx (q_lay r dT g (nI kd) bs fg m nk a F tk V nx K (bAll (fun k a => stk kd bs m (ks k) a) K (8 * m * m) a)) := by
  have hm := hD.pos
  have hm2 := hD.le
  have hm3 : 2 ≤ m := by have := hD.2.1; have := hD.2.2.2.1; omega
  have hkd := hD.1
  have hmm := mm_le hm2
  have hea := encM_lt ha
  refine MC.ofJ [some (.ref (r 100)), some (.int (nI K)), none, none, none, none, none, none, none] rfl (Nat.le_of_ble_eq_true rfl) (by decide) ?_
  refine j_re rfl rfl (h' := (mdS r dT g (nI kd) bs fg m nk a.1 a.2.1 a.2.2.1 a.2.2.2 F tk (vo V [(109, V 109), (110, V 110), (111, V 111), (113, V 113), (114, V 114)]))) (by rw [vo_same _ (by simp)]) ?_
  refine j_iconst (v := 0) dX3_layFewest_0 (by decide) ?_
  refine j_istore_n dX3_layFewest_1 (by decide) rfl ?_
  refine j_less (L' := [some (.ref (r 100)), some (.int (nI K)), some (.int (nI 0)), none, none, none, none, none, none]) ⟨Or.inr rfl, Or.inr rfl, Or.inr rfl, Or.inl rfl, Or.inl rfl, Or.inl rfl, Or.inl rfl, Or.inl rfl, Or.inl rfl, trivial⟩ ?_
  refine j_lp2 (fun (k : Nat) (fw : Nat → Int32) => (mdS r dT g (nI kd) bs fg m nk a.1 a.2.1 a.2.2.1 a.2.2.2 F tk (vo V [(109, V 109), (110, V 110), (111, V 111), (113, fw), (114, V 114)]))) (fun k _ => [some (.ref (r 100)), some (.int (nI K)), some (.int (nI k)), none, none, none, none, none, none]) (fun k fw => k ≤ 100 ∧ ∀ q, q < k → fw q = -1) (fun k _ => 100 - k) ?_ 0 (V 113) ⟨Nat.zero_le _, fun q hq => absurd hq (Nat.not_lt_zero _)⟩
  intro k fw ⟨hk, hfw⟩ ih
  refine j_iload_n dX3_layFewest_2 rfl ?_
  refine j_bipush (v := 100) dX3_layFewest_3 (by decide) ?_
  refine j_icmp_ge (tgt := 21) dX3_layFewest_5 (by decide) (fun c5 => ?_) (fun c5 => ?_)
  · skip
    have hk1 : k = 100 := by
      have := (nI_leI (by decide) (by omega)).mp (show nI 100 ≤ nI k from c5)
      omega
    have hfw9 : ∀ v, v < m → fw v = -1 := fun v hv => hfw v (by omega)
    clear ih hfw hk1 hk
    refine j_aload_n dX3_layFewest_21 rfl ?_
    refine j_get 3 dX3_layFewest_22 (by first | rfl | assumption) in_X3 rfl (by decide) q1102 rfl ?_
    refine j_if_ne (tgt := 29) dX3_layFewest_25 (by decide) (fun c25 => ?_) (fun c25 => absurd c25 (nI_ne hm (by omega)))
    refine j_aload_n dX3_layFewest_29 rfl ?_
    refine j_callVi (m_stateNow ha.2.2.2) dX3_layFewest_30 pmX3_stateNow q1344 q1346 qs43 (by first | rfl | assumption) rfl rfl rfl ⟨Nat.le_of_ble_eq_true rfl, Nat.le_of_ble_eq_true rfl⟩ ⟨Nat.le_of_ble_eq_true rfl, Nat.le_of_ble_eq_true rfl⟩ rfl (Nat.le_of_ble_eq_true rfl) ?_
    refine j_istore_n dX3_layFewest_33 (by decide) rfl ?_
    refine j_iconst (v := 0) dX3_layFewest_34 (by decide) ?_
    refine j_istore_n dX3_layFewest_35 (by decide) rfl ?_
    refine j_less (L' := [some (.ref (r 100)), some (.int (nI K)), some (.int (nI (encM m a))), some (.int (nI 0)), none, none, none, none, none]) ⟨Or.inr rfl, Or.inr rfl, Or.inr rfl, Or.inr rfl, Or.inl rfl, Or.inl rfl, Or.inl rfl, Or.inl rfl, Or.inl rfl, trivial⟩ ?_
    refine j_lp2 (fun (k : Nat) (fr : Nat → Int32) => (mdS r dT g (nI kd) bs fg m nk a.1 a.2.1 a.2.2.1 a.2.2.2 F tk (vo V [(109, fr), (110, V 110), (111, V 111), (113, fw), (114, V 114)]))) (fun k _ => [some (.ref (r 100)), some (.int (nI K)), some (.int (nI (encM m a))), some (.int (nI k)), none, none, none, none, none]) (fun k fr => k ≤ 8 * m * m ∧ ∀ q, q < k → fr q = -1) (fun k _ => 8 * m * m - k) ?_ 0 (V 109) ⟨Nat.zero_le _, fun q hq => absurd hq (Nat.not_lt_zero _)⟩
    intro k fr ⟨hk, hfr⟩ ih
    refine j_iload_n dX3_layFewest_36 rfl ?_
    refine j_aload_n dX3_layFewest_37 rfl ?_
    refine j_callVi m_states dX3_layFewest_38 pmX3_states q1348 q1350 qs44 (by first | rfl | assumption) rfl rfl rfl ⟨Nat.le_of_ble_eq_true rfl, Nat.le_of_ble_eq_true rfl⟩ ⟨Nat.le_of_ble_eq_true rfl, Nat.le_of_ble_eq_true rfl⟩ rfl (Nat.le_of_ble_eq_true rfl) ?_
    refine j_icmp_ge (tgt := 57) dX3_layFewest_41 (by decide) (fun c41 => ?_) (fun c41 => ?_)
    · skip
      have hk1 : k = 8 * m * m := by
        have := (nI_leI (by omega) (by omega)).mp c41
        omega
      have hfr9 : ∀ s, s < 8 * m * m → fr s = -1 := fun s hs => hfr s (by omega)
      refine j_iconst (v := 1) dX3_layFewest_57 (by decide) ?_
      refine j_istore_n dX3_layFewest_58 (by decide) rfl ?_
      refine j_aload_n dX3_layFewest_59 rfl ?_
      refine j_get 35 dX3_layFewest_60 (by first | rfl | assumption) in_X3 rfl (by decide) q1134 rfl ?_
      refine j_iconst (v := 0) dX3_layFewest_63 (by decide) ?_
      refine j_iload_n dX3_layFewest_64 rfl ?_
      refine j_iast 0 0 dX3_layFewest_65 (by first | rfl | assumption) rfl rfl (by decide) (by decide) ?_
      refine j_mdW (f := _) (by decide) (by decide) rfl ?_
      refine j_aload_n dX3_layFewest_66 rfl ?_
      refine j_get 34 dX3_layFewest_67 (by first | rfl | assumption) in_X3 rfl (by decide) q1133 rfl ?_
      refine j_iload_n dX3_layFewest_70 rfl ?_
      refine j_iconst (v := 0) dX3_layFewest_71 (by decide) ?_
      refine j_iast 0 (encM m a) dX3_layFewest_72 (by first | rfl | assumption) rfl rfl (by show encM m a < 80000; omega) (by decide) ?_
      refine j_mdW (f := _) (by decide) (by decide) rfl ?_
      refine j_aload_n dX3_layFewest_73 rfl ?_
      refine j_get 36 dX3_layFewest_74 (by first | rfl | assumption) in_X3 rfl (by decide) q1135 rfl ?_
      refine j_iload_n dX3_layFewest_77 rfl ?_
      refine j_iconst (v := (-1)) dX3_layFewest_78 (by decide) ?_
      refine j_iast 0 (encM m a) dX3_layFewest_79 (by first | rfl | assumption) rfl rfl (by show encM m a < 80000; omega) (by decide) ?_
      refine j_mdW (f := _) (by decide) (by decide) rfl ?_
      refine j_iconst (v := 0) dX3_layFewest_80 (by decide) ?_
      refine j_istore dX3_layFewest_81 (by decide) rfl ?_
      refine j_less (L' := [some (.ref (r 100)), some (.int (nI K)), some (.int (nI (encM m a))), some (.int (nI [(a, 0, a, 0)].length)), some (.int (nI 0)), none, none, none, none]) ⟨Or.inr rfl, Or.inr rfl, Or.inr rfl, Or.inr rfl, Or.inr rfl, Or.inl rfl, Or.inl rfl, Or.inl rfl, Or.inl rfl, trivial⟩ ?_
      refine j_lp8 (fun (i : Nat) (L : List BE) (b : A4) (fr ln by' fw fs : Nat → Int32) => (mdS r dT g (nI kd) bs fg m nk b.1 b.2.1 b.2.2.1 b.2.2.2 F tk (vo V [(109, fr), (110, ln), (111, by'), (113, fw), (114, fs)]))) (fun i L _ _ _ _ _ _ => [some (.ref (r 100)), some (.int (nI K)), some (.int (nI (encM m a))), some (.int (nI L.length)), some (.int (nI i)), none, none, none, none]) (fun i L b fr ln by' fw fs => i ≤ L.length ∧ okA m b ∧ bOK m K L ∧ mRep m L i fr ln by' fw fs ∧ bRun (fun k a => stk kd bs m (ks k) a) K (8 * m * m + 1 - i) i L = (bAll (fun k a => stk kd bs m (ks k) a) K (8 * m * m) a)) (fun i _ _ _ _ _ _ _ => 8 * m * m + 1 - i) ?_ 0 [(a, 0, a, 0)] a _ _ _ _ _ ⟨Nat.zero_le _, ha, bOK.start ha, mRep_start ha hfr9 hfw9, rfl⟩
      clear ih
      intro i L b fr ln by' fw fs ⟨hiL, hb, hO, hR, hrun⟩ ih
      have hLl := hO.len
      refine j_iload dX3_layFewest_83 rfl ?_
      refine j_iload_n dX3_layFewest_85 rfl ?_
      refine j_icmp_ge (tgt := 224) dX3_layFewest_86 (by decide) (fun c86 => ?_) (fun c86 => ?_)
      · skip
        have hil : L.length ≤ i := (nI_leI (by omega) (by omega)).mp c86
        rw [bRun_end hil] at hrun
        have hie : i = L.length := by omega
        subst hie
        refine j_aload_n dX3_layFewest_224 rfl ?_
        refine j_iload_n dX3_layFewest_225 rfl ?_
        refine j_callVv (m_setState hm hm2 (encM m a) (by omega)) dX3_layFewest_226 pmX3_setState q1360 q1362 qs47 (by first | rfl | assumption) rfl rfl rfl ⟨Nat.le_of_ble_eq_true rfl, Nat.le_of_ble_eq_true rfl⟩ ⟨Nat.le_of_ble_eq_true rfl, Nat.le_of_ble_eq_true rfl⟩ rfl (Nat.le_of_ble_eq_true rfl) ?_
        refine j_vret dX3_layFewest_229 rfl (Nat.le_refl _) (Nat.le_refl _) ?_
        rw [decM_encM ha]
        exact ⟨rfl, rfl, rfl, fr, ln, by', fw, fs, rfl, hrun ▸ hR, hrun ▸ hO⟩
      · skip
        have hil : i < L.length := Nat.lt_of_not_le (fun q => c86 (nI_le q (by omega)))
        obtain ⟨e, he⟩ : ∃ e, L[i]? = some e := ⟨_, List.getElem?_eq_getElem hil⟩
        rw [show 8 * m * m + 1 - i = (8 * m * m - i) + 1 by omega, bRun_step he] at hrun
        have hoe := hO.2.1 e (List.mem_of_getElem? he)
        have hel := encM_lt hoe
        have hsh : encM m e.1 / 8 / m = e.1.2.2.1 := congrArg (fun z : A4 => z.2.2.1) (decM_encM hoe)
        have hsm := hoe.2.2.1
        refine j_aload_n dX3_layFewest_89 rfl ?_
        refine j_get 35 dX3_layFewest_90 (by first | rfl | assumption) in_X3 rfl (by decide) q1134 rfl ?_
        refine j_iload dX3_layFewest_93 rfl ?_
        refine j_iald 0 i dX3_layFewest_95 (by first | rfl | assumption) rfl rfl (by show i < 80000; omega) (by decide) ?_
        refine j_eqi (show _ = nI (encM m e.1) from (hR.1 i e he).1) ?_
        refine j_istore dX3_layFewest_96 (by decide) rfl ?_
        refine j_aload_n dX3_layFewest_98 rfl ?_
        refine j_iload dX3_layFewest_99 rfl ?_
        refine j_callVi (m_shownIn hm hm2 (encM m e.1) (by omega)) dX3_layFewest_101 pmX3_shownIn q1352 q1354 qs45 (by first | rfl | assumption) rfl rfl rfl ⟨Nat.le_of_ble_eq_true rfl, Nat.le_of_ble_eq_true rfl⟩ ⟨Nat.le_of_ble_eq_true rfl, Nat.le_of_ble_eq_true rfl⟩ rfl (Nat.le_of_ble_eq_true rfl) ?_
        rw [hsh]
        refine j_istore dX3_layFewest_104 (by decide) rfl ?_
        refine j_aload_n dX3_layFewest_106 rfl ?_
        refine j_get 38 dX3_layFewest_107 (by first | rfl | assumption) in_X3 rfl (by decide) q1137 rfl ?_
        refine j_iload dX3_layFewest_110 rfl ?_
        refine j_iald 0 e.1.2.2.1 dX3_layFewest_112 (by first | rfl | assumption) rfl rfl (by show e.1.2.2.1 < 100; omega) (by decide) ?_
        refine j_iconst (v := (-1)) dX3_layFewest_113 (by decide) ?_
        refine j_icmp_ne (tgt := 140) dX3_layFewest_114 (by decide) (fun c114 => ?_) (fun c114 => ?_)
        · skip
          have hR2 := hR.old hoe he c114
          refine j_iconst (v := 0) dX3_layFewest_140 (by decide) ?_
          refine j_istore dX3_layFewest_141 (by decide) rfl ?_
          refine j_less (L' := [some (.ref (r 100)), some (.int (nI K)), some (.int (nI (encM m a))), some (.int (nI L.length)), some (.int (nI i)), some (.int (nI (encM m e.1))), some (.int (nI e.1.2.2.1)), some (.int (nI 0)), none]) ⟨Or.inr rfl, Or.inr rfl, Or.inr rfl, Or.inr rfl, Or.inr rfl, Or.inr rfl, Or.inr rfl, Or.inr rfl, Or.inl rfl, trivial⟩ ?_
          refine j_lp7 (fun (k : Nat) (L : List BE) (b : A4) (fr ln by' : Nat → Int32) (_ : Unit) => (mdS r dT g (nI kd) bs fg m nk b.1 b.2.1 b.2.2.1 b.2.2.2 F tk (vo V [(109, fr), (110, ln), (111, by'), (113, fw), (114, fs)]))) (fun k L _ _ _ _ _ => [some (.ref (r 100)), some (.int (nI K)), some (.int (nI (encM m a))), some (.int (nI L.length)), some (.int (nI i)), some (.int (nI (encM m e.1))), some (.int (nI e.1.2.2.1)), some (.int (nI k)), none]) (fun k L b fr ln by' _ => k ≤ K ∧ L[i]? = some e ∧ okA m b ∧ bOK m K L ∧ mRep m L (i + 1) fr ln by' fw fs ∧ bRun (fun k a => stk kd bs m (ks k) a) K (8 * m * m - i) (i + 1) (bKeys (fun k a => stk kd bs m (ks k) a) e (K - k) k L) = (bAll (fun k a => stk kd bs m (ks k) a) K (8 * m * m) a)) (fun k _ _ _ _ _ _ => K - k) ?_ 0 L b fr ln by' () ⟨Nat.zero_le _, he, hb, hO, hR2, hrun⟩
          clear hLl hiL hil he hR2 hR hO hrun hb
          intro k L b fr ln by' _ ⟨hkK, he, hb, hO, hR, hrun⟩ ih2
          have hLl := hO.len
          have hil : i < L.length := (List.getElem?_eq_some_iff.mp he).1
          have hoe := hO.2.1 e (List.mem_of_getElem? he)
          have hel := encM_lt hoe
          refine j_iload dX3_layFewest_143 rfl ?_
          refine j_iload_n dX3_layFewest_145 rfl ?_
          refine j_icmp_ge (tgt := 218) dX3_layFewest_146 (by decide) (fun c146 => ?_) (fun c146 => ?_)
          · skip
            have hkk : k = K := by
              have := (nI_leI (by omega) (by omega)).mp c146
              omega
            subst hkk
            rw [Nat.sub_self] at hrun
            refine j_iinc dX3_layFewest_218 rfl (by decide) rfl ?_
            refine j_goto (tgt := 83) dX3_layFewest_221 (by decide) ?_
            refine j_less (L' := [some (.ref (r 100)), some (.int (nI k)), some (.int (nI (encM m a))), some (.int (nI L.length)), some (.int (nI (i + 1))), none, none, none, none]) ⟨Or.inr rfl, Or.inr rfl, Or.inr rfl, Or.inr rfl, Or.inr (by rw [← nI_inc]), Or.inl rfl, Or.inl rfl, Or.inl rfl, Or.inl rfl, trivial⟩ ?_
            exact ih (i + 1) L b fr ln by' fw fs ⟨by omega, hb, hO, hR, by rw [show 8 * m * m + 1 - (i + 1) = 8 * m * m - i by omega]; exact hrun⟩ (by omega)
          · skip
            have hkK2 : k < K := Nat.lt_of_not_le (fun q => c146 (nI_le q (by omega)))
            have hox : okA m (stk kd bs m (ks k) e.1) := stk_ok hD (hks k hkK2).2 hoe
            have hxl := encM_lt hox
            refine j_aload_n dX3_layFewest_149 rfl ?_
            refine j_iload dX3_layFewest_150 rfl ?_
            refine j_iload dX3_layFewest_152 rfl ?_
            refine j_callVi (m_behind (V := (vo V [(109, fr), (110, ln), (111, by'), (113, fw), (114, fs)])) hD k (by omega) (ks k) (hks k hkK2).2 (hks k hkK2).1 (encM m e.1) hel) dX3_layFewest_154 pmX3_behind q1356 q1358 qs46 (by first | rfl | assumption) rfl rfl rfl ⟨Nat.le_of_ble_eq_true rfl, Nat.le_of_ble_eq_true rfl⟩ ⟨Nat.le_of_ble_eq_true rfl, Nat.le_of_ble_eq_true rfl⟩ rfl (Nat.le_of_ble_eq_true rfl) ?_
            rw [decM_encM hoe]
            refine j_istore dX3_layFewest_157 (by decide) rfl ?_
            refine j_aload_n dX3_layFewest_159 rfl ?_
            refine j_get 34 dX3_layFewest_160 (by first | rfl | assumption) in_X3 rfl (by decide) q1133 rfl ?_
            refine j_iload dX3_layFewest_163 rfl ?_
            refine j_iald 0 (encM m (stk kd bs m (ks k) e.1)) dX3_layFewest_165 (by first | rfl | assumption) rfl rfl (by show encM m (stk kd bs m (ks k) e.1) < 80000; omega) (by decide) ?_
            refine j_iconst (v := (-1)) dX3_layFewest_166 (by decide) ?_
            refine j_icmp_ne (tgt := 212) dX3_layFewest_167 (by decide) (fun c167 => ?_) (fun c167 => ?_)
            · skip
              refine j_iinc dX3_layFewest_212 rfl (by decide) rfl ?_
              have hin : ∃ q, q ∈ L ∧ q.1 = (stk kd bs m (ks k) e.1) := by
                refine Classical.byContradiction (fun hno => c167 (hR.2.1 _ hxl (fun q hq hc => hno ⟨q, hq, encM_inj (hO.2.1 q hq) hox hc⟩)))
              refine j_goto (tgt := 143) dX3_layFewest_215 (by decide) ?_
              refine j_less (L' := [some (.ref (r 100)), some (.int (nI K)), some (.int (nI (encM m a))), some (.int (nI L.length)), some (.int (nI i)), some (.int (nI (encM m e.1))), some (.int (nI e.1.2.2.1)), some (.int (nI (k + 1))), none]) ⟨Or.inr rfl, Or.inr rfl, Or.inr rfl, Or.inr rfl, Or.inr rfl, Or.inr rfl, Or.inr rfl, Or.inr (by rw [← nI_inc]), Or.inl rfl, trivial⟩ ?_
              refine ih2 (k + 1) L (stk kd bs m (ks k) e.1) fr ln by' () ⟨by omega, he, hox, hO, hR, ?_⟩ (by omega)
              rw [← hrun, show K - k = (K - (k + 1)) + 1 by omega, bKeys]
              unfold bAdd
              rw [if_pos (any_has.mpr hin)]
            · skip
              have hno : ∀ q, q ∈ L → q.1 ≠ (stk kd bs m (ks k) e.1) := by
                intro q hq hc
                obtain ⟨j, hj⟩ := List.getElem?_of_mem hq
                have h1 := (hR.1 j q hj).2
                rw [hc] at h1
                have h2 := hO.2.2.1 j q hj
                have h3 := (List.getElem?_eq_some_iff.mp hj).1
                exact nI_m1 (by omega) (h1.symm.trans c167)
              have hL1 := (hO.push he hox hno hkK2).len
              rw [List.length_append, List.length_singleton] at hL1
              refine j_aload_n dX3_layFewest_170 rfl ?_
              refine j_get 34 dX3_layFewest_171 (by first | rfl | assumption) in_X3 rfl (by decide) q1133 rfl ?_
              refine j_iload dX3_layFewest_174 rfl ?_
              refine j_aload_n dX3_layFewest_176 rfl ?_
              refine j_get 34 dX3_layFewest_177 (by first | rfl | assumption) in_X3 rfl (by decide) q1133 rfl ?_
              refine j_iload dX3_layFewest_180 rfl ?_
              refine j_iald 0 (encM m e.1) dX3_layFewest_182 (by first | rfl | assumption) rfl rfl (by show encM m e.1 < 80000; omega) (by decide) ?_
              refine j_eqi (show _ = nI e.2.1 from (hR.1 i e he).2) ?_
              refine j_iconst (v := 1) dX3_layFewest_183 (by decide) ?_
              refine j_iadd dX3_layFewest_184 ?_
              refine j_eqi (show _ = nI (e.2.1 + 1) from nI_1 _) ?_
              refine j_iast 0 (encM m (stk kd bs m (ks k) e.1)) dX3_layFewest_185 (by first | rfl | assumption) rfl rfl (by show encM m (stk kd bs m (ks k) e.1) < 80000; omega) (by decide) ?_
              refine j_mdW (f := _) (by decide) (by decide) rfl ?_
              refine j_aload_n dX3_layFewest_186 rfl ?_
              refine j_get 36 dX3_layFewest_187 (by first | rfl | assumption) in_X3 rfl (by decide) q1135 rfl ?_
              refine j_iload dX3_layFewest_190 rfl ?_
              refine j_ldc dX3_layFewest_192 q1098 ?_
              refine j_iload dX3_layFewest_194 rfl ?_
              refine j_imul dX3_layFewest_196 ?_
              refine j_iload dX3_layFewest_197 rfl ?_
              refine j_iadd dX3_layFewest_199 ?_
              refine j_eqi (show _ = nI (80000 * k + encM m e.1) by rw [show (80000 : Int32) = nI 80000 from rfl, pk_mul, nI_add]) ?_
              refine j_iast 0 (encM m (stk kd bs m (ks k) e.1)) dX3_layFewest_200 (by first | rfl | assumption) rfl rfl (by show encM m (stk kd bs m (ks k) e.1) < 80000; omega) (by decide) ?_
              refine j_mdW (f := _) (by decide) (by decide) rfl ?_
              refine j_aload_n dX3_layFewest_201 rfl ?_
              refine j_get 35 dX3_layFewest_202 (by first | rfl | assumption) in_X3 rfl (by decide) q1134 rfl ?_
              refine j_iload_n dX3_layFewest_205 rfl ?_
              refine j_iload dX3_layFewest_206 rfl ?_
              refine j_iast 0 L.length dX3_layFewest_208 (by first | rfl | assumption) rfl rfl (by show L.length < 80000; omega) (by decide) ?_
              refine j_mdW (f := _) (by decide) (by decide) rfl ?_
              refine j_iinc dX3_layFewest_209 rfl (by decide) rfl ?_
              refine j_iinc dX3_layFewest_212 rfl (by decide) rfl ?_
              refine j_goto (tgt := 143) dX3_layFewest_215 (by decide) ?_
              refine j_less (L' := [some (.ref (r 100)), some (.int (nI K)), some (.int (nI (encM m a))), some (.int (nI (L ++ [((stk kd bs m (ks k) e.1), e.2.1 + 1, e.1, k)]).length)), some (.int (nI i)), some (.int (nI (encM m e.1))), some (.int (nI e.1.2.2.1)), some (.int (nI (k + 1))), none]) ⟨Or.inr rfl, Or.inr rfl, Or.inr rfl, Or.inr (by rw [List.length_append, List.length_singleton, ← nI_inc]), Or.inr rfl, Or.inr rfl, Or.inr rfl, Or.inr (by rw [← nI_inc]), Or.inl rfl, trivial⟩ ?_
              refine ih2 (k + 1) _ (stk kd bs m (ks k) e.1) _ _ _ () ⟨by omega, by rw [List.getElem?_append_left hil]; exact he, hox, hO.push he hox hno hkK2, hR.push (k := k) hO (by omega) he hox hno, ?_⟩ (by omega)
              rw [← hrun, show K - k = (K - (k + 1)) + 1 by omega, bKeys]
              unfold bAdd
              rw [if_neg (fun hc => by obtain ⟨q, hq, hq2⟩ := any_has.mp hc; exact hno q hq hq2)]
        · skip
          have hR2 := hR.new hm2 hO he c114
          refine j_aload_n dX3_layFewest_117 rfl ?_
          refine j_get 38 dX3_layFewest_118 (by first | rfl | assumption) in_X3 rfl (by decide) q1137 rfl ?_
          refine j_iload dX3_layFewest_121 rfl ?_
          refine j_aload_n dX3_layFewest_123 rfl ?_
          refine j_get 34 dX3_layFewest_124 (by first | rfl | assumption) in_X3 rfl (by decide) q1133 rfl ?_
          refine j_iload dX3_layFewest_127 rfl ?_
          refine j_iald 0 (encM m e.1) dX3_layFewest_129 (by first | rfl | assumption) rfl rfl (by show encM m e.1 < 80000; omega) (by decide) ?_
          refine j_eqi (show _ = nI e.2.1 from (hR.1 i e he).2) ?_
          refine j_iast 0 e.1.2.2.1 dX3_layFewest_130 (by first | rfl | assumption) rfl rfl (by show e.1.2.2.1 < 100; omega) (by decide) ?_
          refine j_mdW (f := upd fw e.1.2.2.1 (nI e.2.1)) (by decide) (by decide) rfl ?_
          refine j_aload_n dX3_layFewest_131 rfl ?_
          refine j_get 39 dX3_layFewest_132 (by first | rfl | assumption) in_X3 rfl (by decide) q1138 rfl ?_
          refine j_iload dX3_layFewest_135 rfl ?_
          refine j_iload dX3_layFewest_137 rfl ?_
          refine j_iast 0 e.1.2.2.1 dX3_layFewest_139 (by first | rfl | assumption) rfl rfl (by show e.1.2.2.1 < 100; omega) (by decide) ?_
          refine j_mdW (f := upd fs e.1.2.2.1 (nI (encM m e.1))) (by decide) (by decide) rfl ?_
          refine j_iconst (v := 0) dX3_layFewest_140 (by decide) ?_
          refine j_istore dX3_layFewest_141 (by decide) rfl ?_
          generalize upd fw e.1.2.2.1 (nI e.2.1) = fw at hR2 ⊢
          generalize upd fs e.1.2.2.1 (nI (encM m e.1)) = fs at hR2 ⊢
          refine j_less (L' := [some (.ref (r 100)), some (.int (nI K)), some (.int (nI (encM m a))), some (.int (nI L.length)), some (.int (nI i)), some (.int (nI (encM m e.1))), some (.int (nI e.1.2.2.1)), some (.int (nI 0)), none]) ⟨Or.inr rfl, Or.inr rfl, Or.inr rfl, Or.inr rfl, Or.inr rfl, Or.inr rfl, Or.inr rfl, Or.inr rfl, Or.inl rfl, trivial⟩ ?_
          refine j_lp7 (fun (k : Nat) (L : List BE) (b : A4) (fr ln by' : Nat → Int32) (_ : Unit) => (mdS r dT g (nI kd) bs fg m nk b.1 b.2.1 b.2.2.1 b.2.2.2 F tk (vo V [(109, fr), (110, ln), (111, by'), (113, fw), (114, fs)]))) (fun k L _ _ _ _ _ => [some (.ref (r 100)), some (.int (nI K)), some (.int (nI (encM m a))), some (.int (nI L.length)), some (.int (nI i)), some (.int (nI (encM m e.1))), some (.int (nI e.1.2.2.1)), some (.int (nI k)), none]) (fun k L b fr ln by' _ => k ≤ K ∧ L[i]? = some e ∧ okA m b ∧ bOK m K L ∧ mRep m L (i + 1) fr ln by' fw fs ∧ bRun (fun k a => stk kd bs m (ks k) a) K (8 * m * m - i) (i + 1) (bKeys (fun k a => stk kd bs m (ks k) a) e (K - k) k L) = (bAll (fun k a => stk kd bs m (ks k) a) K (8 * m * m) a)) (fun k _ _ _ _ _ _ => K - k) ?_ 0 L b fr ln by' () ⟨Nat.zero_le _, he, hb, hO, hR2, hrun⟩
          clear hLl hiL hil he hR2 hR hO hrun hb
          intro k L b fr ln by' _ ⟨hkK, he, hb, hO, hR, hrun⟩ ih2
          have hLl := hO.len
          have hil : i < L.length := (List.getElem?_eq_some_iff.mp he).1
          have hoe := hO.2.1 e (List.mem_of_getElem? he)
          have hel := encM_lt hoe
          refine j_iload dX3_layFewest_143 rfl ?_
          refine j_iload_n dX3_layFewest_145 rfl ?_
          refine j_icmp_ge (tgt := 218) dX3_layFewest_146 (by decide) (fun c146 => ?_) (fun c146 => ?_)
          · skip
            have hkk : k = K := by
              have := (nI_leI (by omega) (by omega)).mp c146
              omega
            subst hkk
            rw [Nat.sub_self] at hrun
            refine j_iinc dX3_layFewest_218 rfl (by decide) rfl ?_
            refine j_goto (tgt := 83) dX3_layFewest_221 (by decide) ?_
            refine j_less (L' := [some (.ref (r 100)), some (.int (nI k)), some (.int (nI (encM m a))), some (.int (nI L.length)), some (.int (nI (i + 1))), none, none, none, none]) ⟨Or.inr rfl, Or.inr rfl, Or.inr rfl, Or.inr rfl, Or.inr (by rw [← nI_inc]), Or.inl rfl, Or.inl rfl, Or.inl rfl, Or.inl rfl, trivial⟩ ?_
            exact ih (i + 1) L b fr ln by' fw fs ⟨by omega, hb, hO, hR, by rw [show 8 * m * m + 1 - (i + 1) = 8 * m * m - i by omega]; exact hrun⟩ (by omega)
          · skip
            have hkK2 : k < K := Nat.lt_of_not_le (fun q => c146 (nI_le q (by omega)))
            have hox : okA m (stk kd bs m (ks k) e.1) := stk_ok hD (hks k hkK2).2 hoe
            have hxl := encM_lt hox
            refine j_aload_n dX3_layFewest_149 rfl ?_
            refine j_iload dX3_layFewest_150 rfl ?_
            refine j_iload dX3_layFewest_152 rfl ?_
            refine j_callVi (m_behind (V := (vo V [(109, fr), (110, ln), (111, by'), (113, fw), (114, fs)])) hD k (by omega) (ks k) (hks k hkK2).2 (hks k hkK2).1 (encM m e.1) hel) dX3_layFewest_154 pmX3_behind q1356 q1358 qs46 (by first | rfl | assumption) rfl rfl rfl ⟨Nat.le_of_ble_eq_true rfl, Nat.le_of_ble_eq_true rfl⟩ ⟨Nat.le_of_ble_eq_true rfl, Nat.le_of_ble_eq_true rfl⟩ rfl (Nat.le_of_ble_eq_true rfl) ?_
            rw [decM_encM hoe]
            refine j_istore dX3_layFewest_157 (by decide) rfl ?_
            refine j_aload_n dX3_layFewest_159 rfl ?_
            refine j_get 34 dX3_layFewest_160 (by first | rfl | assumption) in_X3 rfl (by decide) q1133 rfl ?_
            refine j_iload dX3_layFewest_163 rfl ?_
            refine j_iald 0 (encM m (stk kd bs m (ks k) e.1)) dX3_layFewest_165 (by first | rfl | assumption) rfl rfl (by show encM m (stk kd bs m (ks k) e.1) < 80000; omega) (by decide) ?_
            refine j_iconst (v := (-1)) dX3_layFewest_166 (by decide) ?_
            refine j_icmp_ne (tgt := 212) dX3_layFewest_167 (by decide) (fun c167 => ?_) (fun c167 => ?_)
            · skip
              refine j_iinc dX3_layFewest_212 rfl (by decide) rfl ?_
              have hin : ∃ q, q ∈ L ∧ q.1 = (stk kd bs m (ks k) e.1) := by
                refine Classical.byContradiction (fun hno => c167 (hR.2.1 _ hxl (fun q hq hc => hno ⟨q, hq, encM_inj (hO.2.1 q hq) hox hc⟩)))
              refine j_goto (tgt := 143) dX3_layFewest_215 (by decide) ?_
              refine j_less (L' := [some (.ref (r 100)), some (.int (nI K)), some (.int (nI (encM m a))), some (.int (nI L.length)), some (.int (nI i)), some (.int (nI (encM m e.1))), some (.int (nI e.1.2.2.1)), some (.int (nI (k + 1))), none]) ⟨Or.inr rfl, Or.inr rfl, Or.inr rfl, Or.inr rfl, Or.inr rfl, Or.inr rfl, Or.inr rfl, Or.inr (by rw [← nI_inc]), Or.inl rfl, trivial⟩ ?_
              refine ih2 (k + 1) L (stk kd bs m (ks k) e.1) fr ln by' () ⟨by omega, he, hox, hO, hR, ?_⟩ (by omega)
              rw [← hrun, show K - k = (K - (k + 1)) + 1 by omega, bKeys]
              unfold bAdd
              rw [if_pos (any_has.mpr hin)]
            · skip
              have hno : ∀ q, q ∈ L → q.1 ≠ (stk kd bs m (ks k) e.1) := by
                intro q hq hc
                obtain ⟨j, hj⟩ := List.getElem?_of_mem hq
                have h1 := (hR.1 j q hj).2
                rw [hc] at h1
                have h2 := hO.2.2.1 j q hj
                have h3 := (List.getElem?_eq_some_iff.mp hj).1
                exact nI_m1 (by omega) (h1.symm.trans c167)
              have hL1 := (hO.push he hox hno hkK2).len
              rw [List.length_append, List.length_singleton] at hL1
              refine j_aload_n dX3_layFewest_170 rfl ?_
              refine j_get 34 dX3_layFewest_171 (by first | rfl | assumption) in_X3 rfl (by decide) q1133 rfl ?_
              refine j_iload dX3_layFewest_174 rfl ?_
              refine j_aload_n dX3_layFewest_176 rfl ?_
              refine j_get 34 dX3_layFewest_177 (by first | rfl | assumption) in_X3 rfl (by decide) q1133 rfl ?_
              refine j_iload dX3_layFewest_180 rfl ?_
              refine j_iald 0 (encM m e.1) dX3_layFewest_182 (by first | rfl | assumption) rfl rfl (by show encM m e.1 < 80000; omega) (by decide) ?_
              refine j_eqi (show _ = nI e.2.1 from (hR.1 i e he).2) ?_
              refine j_iconst (v := 1) dX3_layFewest_183 (by decide) ?_
              refine j_iadd dX3_layFewest_184 ?_
              refine j_eqi (show _ = nI (e.2.1 + 1) from nI_1 _) ?_
              refine j_iast 0 (encM m (stk kd bs m (ks k) e.1)) dX3_layFewest_185 (by first | rfl | assumption) rfl rfl (by show encM m (stk kd bs m (ks k) e.1) < 80000; omega) (by decide) ?_
              refine j_mdW (f := _) (by decide) (by decide) rfl ?_
              refine j_aload_n dX3_layFewest_186 rfl ?_
              refine j_get 36 dX3_layFewest_187 (by first | rfl | assumption) in_X3 rfl (by decide) q1135 rfl ?_
              refine j_iload dX3_layFewest_190 rfl ?_
              refine j_ldc dX3_layFewest_192 q1098 ?_
              refine j_iload dX3_layFewest_194 rfl ?_
              refine j_imul dX3_layFewest_196 ?_
              refine j_iload dX3_layFewest_197 rfl ?_
              refine j_iadd dX3_layFewest_199 ?_
              refine j_eqi (show _ = nI (80000 * k + encM m e.1) by rw [show (80000 : Int32) = nI 80000 from rfl, pk_mul, nI_add]) ?_
              refine j_iast 0 (encM m (stk kd bs m (ks k) e.1)) dX3_layFewest_200 (by first | rfl | assumption) rfl rfl (by show encM m (stk kd bs m (ks k) e.1) < 80000; omega) (by decide) ?_
              refine j_mdW (f := _) (by decide) (by decide) rfl ?_
              refine j_aload_n dX3_layFewest_201 rfl ?_
              refine j_get 35 dX3_layFewest_202 (by first | rfl | assumption) in_X3 rfl (by decide) q1134 rfl ?_
              refine j_iload_n dX3_layFewest_205 rfl ?_
              refine j_iload dX3_layFewest_206 rfl ?_
              refine j_iast 0 L.length dX3_layFewest_208 (by first | rfl | assumption) rfl rfl (by show L.length < 80000; omega) (by decide) ?_
              refine j_mdW (f := _) (by decide) (by decide) rfl ?_
              refine j_iinc dX3_layFewest_209 rfl (by decide) rfl ?_
              refine j_iinc dX3_layFewest_212 rfl (by decide) rfl ?_
              refine j_goto (tgt := 143) dX3_layFewest_215 (by decide) ?_
              refine j_less (L' := [some (.ref (r 100)), some (.int (nI K)), some (.int (nI (encM m a))), some (.int (nI (L ++ [((stk kd bs m (ks k) e.1), e.2.1 + 1, e.1, k)]).length)), some (.int (nI i)), some (.int (nI (encM m e.1))), some (.int (nI e.1.2.2.1)), some (.int (nI (k + 1))), none]) ⟨Or.inr rfl, Or.inr rfl, Or.inr rfl, Or.inr (by rw [List.length_append, List.length_singleton, ← nI_inc]), Or.inr rfl, Or.inr rfl, Or.inr rfl, Or.inr (by rw [← nI_inc]), Or.inl rfl, trivial⟩ ?_
              refine ih2 (k + 1) _ (stk kd bs m (ks k) e.1) _ _ _ () ⟨by omega, by rw [List.getElem?_append_left hil]; exact he, hox, hO.push he hox hno hkK2, hR.push (k := k) hO (by omega) he hox hno, ?_⟩ (by omega)
              rw [← hrun, show K - k = (K - (k + 1)) + 1 by omega, bKeys]
              unfold bAdd
              rw [if_neg (fun hc => by obtain ⟨q, hq, hq2⟩ := any_has.mp hc; exact hno q hq hq2)]
    · skip
      have hk1 : k < 8 * m * m := Nat.lt_of_not_le (fun q => c41 (nI_le q (by omega)))
      refine j_aload_n dX3_layFewest_44 rfl ?_
      refine j_get 34 dX3_layFewest_45 (by first | rfl | assumption) in_X3 rfl (by decide) q1133 rfl ?_
      refine j_iload_n dX3_layFewest_48 rfl ?_
      refine j_iconst (v := (-1)) dX3_layFewest_49 (by decide) ?_
      refine j_iast 0 k dX3_layFewest_50 (by first | rfl | assumption) rfl rfl (by show k < 80000; omega) (by decide) ?_
      refine j_mdW (f := _) (by decide) (by decide) rfl ?_
      refine j_iinc dX3_layFewest_51 rfl (by decide) rfl ?_
      refine j_goto (tgt := 36) dX3_layFewest_54 (by decide) ?_
      refine j_less (L' := [some (.ref (r 100)), some (.int (nI K)), some (.int (nI (encM m a))), some (.int (nI (k + 1))), none, none, none, none, none]) ⟨Or.inr rfl, Or.inr rfl, Or.inr rfl, Or.inr (by rw [← nI_inc]), Or.inl rfl, Or.inl rfl, Or.inl rfl, Or.inl rfl, Or.inl rfl, trivial⟩ ?_
      refine ih (k + 1) _ ⟨by omega, fun q hq => ?_⟩ (by omega)
      by_cases hqk : q = k
      · subst hqk; exact pk_us
      · exact (pk_un hqk).trans (hfr q (by omega))
  · skip
    have hk1 : k < 100 := Nat.lt_of_not_le (fun q => c5 (show nI 100 ≤ nI k from nI_le q (by omega)))
    refine j_aload_n dX3_layFewest_8 rfl ?_
    refine j_get 38 dX3_layFewest_9 (by first | rfl | assumption) in_X3 rfl (by decide) q1137 rfl ?_
    refine j_iload_n dX3_layFewest_12 rfl ?_
    refine j_iconst (v := (-1)) dX3_layFewest_13 (by decide) ?_
    refine j_iast 0 k dX3_layFewest_14 (by first | rfl | assumption) rfl rfl (by show k < 100; omega) (by decide) ?_
    refine j_mdW (f := _) (by decide) (by decide) rfl ?_
    refine j_iinc dX3_layFewest_15 rfl (by decide) rfl ?_
    refine j_goto (tgt := 2) dX3_layFewest_18 (by decide) ?_
    refine j_less (L' := [some (.ref (r 100)), some (.int (nI K)), some (.int (nI (k + 1))), none, none, none, none, none, none]) ⟨Or.inr rfl, Or.inr rfl, Or.inr (by rw [← nI_inc]), Or.inl rfl, Or.inl rfl, Or.inl rfl, Or.inl rfl, Or.inl rfl, Or.inl rfl, trivial⟩ ?_
    refine ih (k + 1) _ ⟨by omega, fun q hq => ?_⟩ (by omega)
    by_cases hqk : q = k
    · subst hqk; exact pk_us
    · exact (pk_un hqk).trans (hfw q (by omega))
