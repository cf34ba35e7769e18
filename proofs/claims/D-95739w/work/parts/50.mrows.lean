set_option maxRecDepth 100000
set_option maxHeartbeats 4000000 in
theorem m_rowsTo {l : Launch} {D : va_G} {dT : Nat → ClassId} {H0 : Heap} {r : Nat → Nat} {nx : Nat} {g : j_H} {kd bs fg m nk : Nat} {a : A4} {F : Nat → Nat} {tk : Int64} {V : Nat → Nat → Int32} (hD : okD kd bs m) (ha : okA m a) {ks : Nat → KY} (hks : mdKs (V 101) bs m nk ks) (hn8 : nk ≤ 8) (n v : Nat) (wo : Int32) (hn : n ≤ 8) (hv : v < m) : MC (gG l D dT H0) yX3_rowsTo cX3_rowsTo 8 (some .int) 6 0 0 [.ref (r 100), .int (nI n), .int (nI v), .int wo] r (mdS r dT g (nI kd) bs fg m nk a.1 a.2.1 a.2.2.1 a.2.2.2 F tk V) nx (jq_m (nI (cntR (fun k a => stk kd bs m (ks k) a) nk v wo n a)) r dT g (nI kd) bs fg m nk a F tk V nx) := by
  have hm := hD.pos
  have hm2 := hD.le
  have hm3 : 2 ≤ m := by have := hD.2.1; have := hD.2.2.2.1; omega
  have hkd := hD.1
  have hmm := mm_le hm2
  have hea := encM_lt ha
  refine MC.ofJ [some (.ref (r 100)), some (.int (nI n)), some (.int (nI v)), some (.int wo), none, none, none, none] rfl (Nat.le_of_ble_eq_true rfl) (by decide) ?_
  refine j_re rfl rfl (h' := (mdS r dT g (nI kd) bs fg m nk a.1 a.2.1 a.2.2.1 a.2.2.2 F tk (vo V [(109, V 109), (110, V 110)]))) (by rw [vo_same _ (by simp)]) ?_
  refine j_aload_n dX3_rowsTo_0 rfl ?_
  refine j_callVi (m_stateNow ha.2.2.2) dX3_rowsTo_1 pmX3_stateNow q1344 q1346 qs43 (by first | rfl | assumption) rfl rfl rfl ⟨Nat.le_of_ble_eq_true rfl, Nat.le_of_ble_eq_true rfl⟩ ⟨Nat.le_of_ble_eq_true rfl, Nat.le_of_ble_eq_true rfl⟩ rfl (Nat.le_of_ble_eq_true rfl) ?_
  refine j_istore dX3_rowsTo_4 (by decide) rfl ?_
  refine j_iconst (v := 0) dX3_rowsTo_6 (by decide) ?_
  refine j_istore dX3_rowsTo_7 (by decide) rfl ?_
  refine j_less (L' := [some (.ref (r 100)), some (.int (nI n)), some (.int (nI v)), some (.int wo), some (.int (nI (encM m a))), some (.int (nI 0)), none, none]) ⟨Or.inr rfl, Or.inr rfl, Or.inr rfl, Or.inr rfl, Or.inr rfl, Or.inr rfl, Or.inl rfl, Or.inl rfl, trivial⟩ ?_
  refine j_lp2 (fun (k : Nat) (wa : Nat → Int32) => (mdS r dT g (nI kd) bs fg m nk a.1 a.2.1 a.2.2.1 a.2.2.2 F tk (vo V [(109, wa), (110, V 110)]))) (fun k _ => [some (.ref (r 100)), some (.int (nI n)), some (.int (nI v)), some (.int wo), some (.int (nI (encM m a))), some (.int (nI k)), none, none]) (fun k wa => k ≤ 8 * m * m ∧ ∀ q, q < k → wa q = 0) (fun k _ => 8 * m * m - k) ?_ 0 (V 109) ⟨Nat.zero_le _, fun q hq => absurd hq (Nat.not_lt_zero _)⟩
  intro k wa ⟨hk, hz⟩ ih
  refine j_iload dX3_rowsTo_9 rfl ?_
  refine j_aload_n dX3_rowsTo_11 rfl ?_
  refine j_callVi m_states dX3_rowsTo_12 pmX3_states q1348 q1350 qs44 (by first | rfl | assumption) rfl rfl rfl ⟨Nat.le_of_ble_eq_true rfl, Nat.le_of_ble_eq_true rfl⟩ ⟨Nat.le_of_ble_eq_true rfl, Nat.le_of_ble_eq_true rfl⟩ rfl (Nat.le_of_ble_eq_true rfl) ?_
  refine j_icmp_ge (tgt := 32) dX3_rowsTo_15 (by decide) (fun c15 => ?_) (fun c15 => ?_)
  · skip
    have hk1 : k = 8 * m * m := by
      have := (nI_leI (by omega) (by omega)).mp c15
      omega
    have hz9 : ∀ s, s < 8 * m * m → wa s = 0 := fun s hs => hz s (by omega)
    clear hz hk1 hk
    refine j_aload_n dX3_rowsTo_32 rfl ?_
    refine j_get 34 dX3_rowsTo_33 (by first | rfl | assumption) in_X3 rfl (by decide) q1133 rfl ?_
    refine j_iload dX3_rowsTo_36 rfl ?_
    refine j_iconst (v := 1) dX3_rowsTo_38 (by decide) ?_
    refine j_iast 0 (encM m a) dX3_rowsTo_39 (by first | rfl | assumption) rfl rfl (by show encM m a < 80000; omega) (by decide) ?_
    refine j_mdW (f := _) (by decide) (by decide) rfl ?_
    refine j_iconst (v := 0) dX3_rowsTo_40 (by decide) ?_
    refine j_istore dX3_rowsTo_41 (by decide) rfl ?_
    refine j_less (L' := [some (.ref (r 100)), some (.int (nI n)), some (.int (nI v)), some (.int wo), some (.int (nI (encM m a))), some (.int (nI 0)), none, none]) ⟨Or.inr rfl, Or.inr rfl, Or.inr rfl, Or.inr rfl, Or.inr rfl, Or.inr rfl, Or.inl rfl, Or.inl rfl, trivial⟩ ?_
    refine j_lp5 (fun (i : Nat) (b : A4) (w : Nat → Nat) (wa th : Nat → Int32) => (mdS r dT g (nI kd) bs fg m nk b.1 b.2.1 b.2.2.1 b.2.2.2 F tk (vo V [(109, wa), (110, th)]))) (fun i _ _ _ _ => [some (.ref (r 100)), some (.int (nI n)), some (.int (nI v)), some (.int wo), some (.int (nI (encM m a))), some (.int (nI i)), none, none]) (fun i b w wa th => okA m b ∧ i ≤ n ∧ (∀ s, s < 8 * m * m → wa s = nI (w s)) ∧ fb_sm w (8 * m * m) ≤ 8 ^ i ∧ fb_sm (fun s => w s * cntR (fun k a => stk kd bs m (ks k) a) nk v wo (n - i) (decM m s)) (8 * m * m) = cntR (fun k a => stk kd bs m (ks k) a) nk v wo n a) (fun i _ _ _ _ => n - i) ?_ 0 a (va_up (fun _ => 0) (encM m a) 1) _ _ ⟨ha, Nat.zero_le _, ?_, ?_, ?_⟩
    rotate_left
    · intro s hs1
      by_cases hsq : s = encM m a
      · subst hsq; rw [va_up_self]; exact pk_us
      · rw [va_up_ne _ _ hsq]
        exact (pk_un hsq).trans (hz9 s hs1)
    · have := sm_ind (c := fun _ => 1) hea
      simp only [Nat.mul_one] at this
      exact Nat.le_of_eq this
    · rw [sm_ind (c := fun s => cntR (fun k a => stk kd bs m (ks k) a) nk v wo (n - 0) (decM m s)) hea, decM_encM ha, Nat.sub_zero]
    clear ih hz9 wa
    intro i b w wa th ⟨hb, hin, hwa, htot, hcnt⟩ ih
    have hwb : ∀ s, s < 8 * m * m → w s < 2 ^ 31 := fun s hs1 => by
      have h1 := sm_one (w := w) hs1
      have h2 := p8_le (i := i) (by omega)
      omega
    refine j_iload dX3_rowsTo_43 rfl ?_
    refine j_iload_n dX3_rowsTo_45 rfl ?_
    refine j_icmp_ge (tgt := 192) dX3_rowsTo_46 (by decide) (fun c46 => ?_) (fun c46 => ?_)
    · skip
      have hni : i = n := by
        have := (nI_leI (by omega) (by omega)).mp c46
        omega
      rw [hni, Nat.sub_self] at hcnt
      refine j_iconst (v := 0) dX3_rowsTo_192 (by decide) ?_
      refine j_istore dX3_rowsTo_193 (by decide) rfl ?_
      refine j_iconst (v := 0) dX3_rowsTo_195 (by decide) ?_
      refine j_istore dX3_rowsTo_196 (by decide) rfl ?_
      refine j_less (L' := [some (.ref (r 100)), some (.int (nI n)), some (.int (nI v)), some (.int wo), some (.int (nI (encM m a))), some (.int (nI 0)), some (.int (nI 0)), none]) ⟨Or.inr rfl, Or.inr rfl, Or.inr rfl, Or.inr rfl, Or.inr rfl, Or.inr rfl, Or.inr rfl, Or.inl rfl, trivial⟩ ?_
      refine j_lp1 (fun (s : Nat) => (mdS r dT g (nI kd) bs fg m nk b.1 b.2.1 b.2.2.1 b.2.2.2 F tk (vo V [(109, wa), (110, th)]))) (fun s => [some (.ref (r 100)), some (.int (nI n)), some (.int (nI v)), some (.int wo), some (.int (nI (encM m a))), some (.int (nI (fb_sm (fun q => if q / 8 / m = v then w q else 0) s))), some (.int (nI s)), none]) (fun s => s ≤ 8 * m * m) (fun s => 8 * m * m - s) ?_ 0 (Nat.zero_le _)
      clear ih
      intro s hsN ih
      refine j_iload dX3_rowsTo_198 rfl ?_
      refine j_aload_n dX3_rowsTo_200 rfl ?_
      refine j_callVi m_states dX3_rowsTo_201 pmX3_states q1348 q1350 qs44 (by first | rfl | assumption) rfl rfl rfl ⟨Nat.le_of_ble_eq_true rfl, Nat.le_of_ble_eq_true rfl⟩ ⟨Nat.le_of_ble_eq_true rfl, Nat.le_of_ble_eq_true rfl⟩ rfl (Nat.le_of_ble_eq_true rfl) ?_
      refine j_icmp_ge (tgt := 239) dX3_rowsTo_204 (by decide) (fun c204 => ?_) (fun c204 => ?_)
      · skip
        have hsN2 : s = 8 * m * m := by
          have := (nI_leI (by omega) (by omega)).mp c204
          omega
        subst hsN2
        refine j_aload_n dX3_rowsTo_239 rfl ?_
        refine j_iload dX3_rowsTo_240 rfl ?_
        refine j_callVv (m_setState hm hm2 (encM m a) (by omega)) dX3_rowsTo_242 pmX3_setState q1360 q1362 qs47 (by first | rfl | assumption) rfl rfl rfl ⟨Nat.le_of_ble_eq_true rfl, Nat.le_of_ble_eq_true rfl⟩ ⟨Nat.le_of_ble_eq_true rfl, Nat.le_of_ble_eq_true rfl⟩ rfl (Nat.le_of_ble_eq_true rfl) ?_
        refine j_iload dX3_rowsTo_245 rfl ?_
        refine j_iret dX3_rowsTo_247 rfl rfl (Nat.le_refl _) (Nat.le_refl _) ?_
        rw [decM_encM ha]
        refine jm_i ?_ (vo_ms (by intro q hq; simp at hq; rcases hq with rfl | rfl <;> exact ⟨Nat.le_of_ble_eq_true rfl, Nat.le_of_ble_eq_true rfl⟩))
        rw [← hcnt]
        congr 1
        apply fb_sm_cong
        intro q hq
        show (if q / 8 / m = v then w q else 0) = w q * (if q / 8 / m = v then 1 else 0)
        split
        · rw [Nat.mul_one]
        · rw [Nat.mul_zero]
      · skip
        have hsN2 : s < 8 * m * m := Nat.lt_of_not_le (fun q => c204 (nI_le q (by omega)))
        have hsl : s / 8 / m < m := (decM_ok hm hsN2).2.2.1
        refine j_iload dX3_rowsTo_207 rfl ?_
        refine j_join (tgt := 230) (fun x => x = nI (if s / 8 / m = v then w s else 0)) (fun v209 hv209 => ?_) (fun kj209 => ?_)
        · skip
          refine j_iadd dX3_rowsTo_230 ?_
          subst hv209
          refine j_eqi (nI_add _ _) ?_
          refine j_istore dX3_rowsTo_231 (by decide) rfl ?_
          refine j_iinc dX3_rowsTo_233 rfl (by decide) rfl ?_
          refine j_goto (tgt := 198) dX3_rowsTo_236 (by decide) ?_
          refine j_less (L' := [some (.ref (r 100)), some (.int (nI n)), some (.int (nI v)), some (.int wo), some (.int (nI (encM m a))), some (.int (nI (fb_sm (fun q => if q / 8 / m = v then w q else 0) (s + 1)))), some (.int (nI (s + 1))), none]) ⟨Or.inr rfl, Or.inr rfl, Or.inr rfl, Or.inr rfl, Or.inr rfl, Or.inr rfl, Or.inr (by rw [← nI_inc]), Or.inl rfl, trivial⟩ ?_
          exact ih (s + 1) (by omega) (by omega)
        · skip
          refine j_aload_n dX3_rowsTo_209 rfl ?_
          refine j_iload dX3_rowsTo_210 rfl ?_
          refine j_callVi (m_shownIn hm hm2 s (by omega)) dX3_rowsTo_212 pmX3_shownIn q1352 q1354 qs45 (by first | rfl | assumption) rfl rfl rfl ⟨Nat.le_of_ble_eq_true rfl, Nat.le_of_ble_eq_true rfl⟩ ⟨Nat.le_of_ble_eq_true rfl, Nat.le_of_ble_eq_true rfl⟩ rfl (Nat.le_of_ble_eq_true rfl) ?_
          refine j_iload_n dX3_rowsTo_215 rfl ?_
          refine j_icmp_ne (tgt := 229) dX3_rowsTo_216 (by decide) (fun c216 => ?_) (fun c216 => ?_)
          · skip
            have c216 : ¬ s / 8 / m = v := fun q => c216 (by rw [q])
            have hj : (0 : Int32) = nI (if s / 8 / m = v then w s else 0) := by rw [if_neg c216]; rfl
            refine j_iconst (v := 0) dX3_rowsTo_229 (by decide) ?_
            exact kj209 _ hj
          · skip
            have c216 : s / 8 / m = v := (nI_eq (by omega) (by omega)).mp c216
            have hj : nI (w s) = nI (if s / 8 / m = v then w s else 0) := by rw [if_pos c216]
            refine j_aload_n dX3_rowsTo_219 rfl ?_
            refine j_get 34 dX3_rowsTo_220 (by first | rfl | assumption) in_X3 rfl (by decide) q1133 rfl ?_
            refine j_iload dX3_rowsTo_223 rfl ?_
            refine j_iald 0 s dX3_rowsTo_225 (by first | rfl | assumption) rfl rfl (by show s < 80000; omega) (by decide) ?_
            refine j_eqi (show _ = nI (w s) from hwa s hsN2) ?_
            refine j_goto (tgt := 230) dX3_rowsTo_226 (by decide) ?_
            exact kj209 _ hj
    · skip
      have hni : i < n := Nat.lt_of_not_le (fun q => c46 (nI_le q (by omega)))
      refine j_iconst (v := 0) dX3_rowsTo_49 (by decide) ?_
      refine j_istore dX3_rowsTo_50 (by decide) rfl ?_
      refine j_less (L' := [some (.ref (r 100)), some (.int (nI n)), some (.int (nI v)), some (.int wo), some (.int (nI (encM m a))), some (.int (nI i)), some (.int (nI 0)), none]) ⟨Or.inr rfl, Or.inr rfl, Or.inr rfl, Or.inr rfl, Or.inr rfl, Or.inr rfl, Or.inr rfl, Or.inl rfl, trivial⟩ ?_
      refine j_lp2 (fun (k : Nat) (th : Nat → Int32) => (mdS r dT g (nI kd) bs fg m nk b.1 b.2.1 b.2.2.1 b.2.2.2 F tk (vo V [(109, wa), (110, th)]))) (fun k _ => [some (.ref (r 100)), some (.int (nI n)), some (.int (nI v)), some (.int wo), some (.int (nI (encM m a))), some (.int (nI i)), some (.int (nI k)), none]) (fun k th => k ≤ 8 * m * m ∧ ∀ q, q < k → th q = 0) (fun k _ => 8 * m * m - k) ?_ 0 th ⟨Nat.zero_le _, fun q hq => absurd hq (Nat.not_lt_zero _)⟩
      clear th
      intro k th ⟨hk, hz⟩ ih9
      refine j_iload dX3_rowsTo_52 rfl ?_
      refine j_aload_n dX3_rowsTo_54 rfl ?_
      refine j_callVi m_states dX3_rowsTo_55 pmX3_states q1348 q1350 qs44 (by first | rfl | assumption) rfl rfl rfl ⟨Nat.le_of_ble_eq_true rfl, Nat.le_of_ble_eq_true rfl⟩ ⟨Nat.le_of_ble_eq_true rfl, Nat.le_of_ble_eq_true rfl⟩ rfl (Nat.le_of_ble_eq_true rfl) ?_
      refine j_icmp_ge (tgt := 75) dX3_rowsTo_58 (by decide) (fun c58 => ?_) (fun c58 => ?_)
      · skip
        have hk1 : k = 8 * m * m := by
          have := (nI_leI (by omega) (by omega)).mp c58
          omega
        have hz9 : ∀ s, s < 8 * m * m → th s = nI 0 := fun s hs => hz s (by omega)
        clear hz hk1 hk
        refine j_iconst (v := 0) dX3_rowsTo_75 (by decide) ?_
        refine j_istore dX3_rowsTo_76 (by decide) rfl ?_
        refine j_less (L' := [some (.ref (r 100)), some (.int (nI n)), some (.int (nI v)), some (.int wo), some (.int (nI (encM m a))), some (.int (nI i)), some (.int (nI 0)), none]) ⟨Or.inr rfl, Or.inr rfl, Or.inr rfl, Or.inr rfl, Or.inr rfl, Or.inr rfl, Or.inr rfl, Or.inl rfl, trivial⟩ ?_
        refine j_lp4 (fun (s : Nat) (b : A4) (t : Nat → Nat) (th : Nat → Int32) => (mdS r dT g (nI kd) bs fg m nk b.1 b.2.1 b.2.2.1 b.2.2.2 F tk (vo V [(109, wa), (110, th)]))) (fun s _ _ _ => [some (.ref (r 100)), some (.int (nI n)), some (.int (nI v)), some (.int wo), some (.int (nI (encM m a))), some (.int (nI i)), some (.int (nI s)), none]) (fun s b t th => okA m b ∧ s ≤ 8 * m * m ∧ (∀ q, q < 8 * m * m → th q = nI (t q)) ∧ ∀ c : Nat → Nat, fb_sm (fun q => t q * c q) (8 * m * m) = fb_sm (fun q => w q * kS (fun k x => encM m (stk kd bs m (ks k) (decM m x))) wo c nk q) s) (fun s _ _ _ => 8 * m * m - s) ?_ 0 b (fun _ => 0) th ⟨hb, Nat.zero_le _, hz9, fun c => ?_⟩
        rotate_left
        · have h0 := fb_sm_const 0 (8 * m * m)
          rw [Nat.mul_zero] at h0
          exact (fb_sm_cong (fun k _ => Nat.zero_mul _)).trans h0
        clear ih9 hz9 th hb b
        intro s b t th ⟨hb, hsN, hth, hlin⟩ ih2
        refine j_iload dX3_rowsTo_78 rfl ?_
        refine j_aload_n dX3_rowsTo_80 rfl ?_
        refine j_callVi m_states dX3_rowsTo_81 pmX3_states q1348 q1350 qs44 (by first | rfl | assumption) rfl rfl rfl ⟨Nat.le_of_ble_eq_true rfl, Nat.le_of_ble_eq_true rfl⟩ ⟨Nat.le_of_ble_eq_true rfl, Nat.le_of_ble_eq_true rfl⟩ rfl (Nat.le_of_ble_eq_true rfl) ?_
        refine j_icmp_ge (tgt := 154) dX3_rowsTo_84 (by decide) (fun c84 => ?_) (fun c84 => ?_)
        · skip
          have hsN2 : s = 8 * m * m := by
            have := (nI_leI (by omega) (by omega)).mp c84
            omega
          subst hsN2
          refine j_iconst (v := 0) dX3_rowsTo_154 (by decide) ?_
          refine j_istore dX3_rowsTo_155 (by decide) rfl ?_
          refine j_less (L' := [some (.ref (r 100)), some (.int (nI n)), some (.int (nI v)), some (.int wo), some (.int (nI (encM m a))), some (.int (nI i)), some (.int (nI 0)), none]) ⟨Or.inr rfl, Or.inr rfl, Or.inr rfl, Or.inr rfl, Or.inr rfl, Or.inr rfl, Or.inr rfl, Or.inl rfl, trivial⟩ ?_
          refine j_lp2 (fun (k : Nat) (wa : Nat → Int32) => (mdS r dT g (nI kd) bs fg m nk b.1 b.2.1 b.2.2.1 b.2.2.2 F tk (vo V [(109, wa), (110, th)]))) (fun k _ => [some (.ref (r 100)), some (.int (nI n)), some (.int (nI v)), some (.int wo), some (.int (nI (encM m a))), some (.int (nI i)), some (.int (nI k)), none]) (fun k wa => k ≤ 8 * m * m ∧ ∀ q, q < k → wa q = th q) (fun k _ => 8 * m * m - k) ?_ 0 wa ⟨Nat.zero_le _, fun q hq => absurd hq (Nat.not_lt_zero _)⟩
          clear hwa
          intro k wa ⟨hk, hz⟩ ih9
          refine j_iload dX3_rowsTo_157 rfl ?_
          refine j_aload_n dX3_rowsTo_159 rfl ?_
          refine j_callVi m_states dX3_rowsTo_160 pmX3_states q1348 q1350 qs44 (by first | rfl | assumption) rfl rfl rfl ⟨Nat.le_of_ble_eq_true rfl, Nat.le_of_ble_eq_true rfl⟩ ⟨Nat.le_of_ble_eq_true rfl, Nat.le_of_ble_eq_true rfl⟩ rfl (Nat.le_of_ble_eq_true rfl) ?_
          refine j_icmp_ge (tgt := 186) dX3_rowsTo_163 (by decide) (fun c163 => ?_) (fun c163 => ?_)
          · skip
            have hk1 : k = 8 * m * m := by
              have := (nI_leI (by omega) (by omega)).mp c163
              omega
            have hz9 : ∀ q, q < 8 * m * m → wa q = th q := fun q hq => hz q (by omega)
            clear hz hk1 hk ih9
            refine j_iinc dX3_rowsTo_186 rfl (by decide) rfl ?_
            refine j_goto (tgt := 43) dX3_rowsTo_189 (by decide) ?_
            refine j_less (L' := [some (.ref (r 100)), some (.int (nI n)), some (.int (nI v)), some (.int wo), some (.int (nI (encM m a))), some (.int (nI (i + 1))), none, none]) ⟨Or.inr rfl, Or.inr rfl, Or.inr rfl, Or.inr rfl, Or.inr rfl, Or.inr (by rw [← nI_inc]), Or.inl rfl, Or.inl rfl, trivial⟩ ?_
            refine ih (i + 1) b t _ th ⟨hb, by omega, fun q hq => ?_, ?_, ?_⟩ (by omega)
            · exact (hz9 q hq).trans (hth q hq)
            · have h1 := tot_next hn8 hlin
              rw [Nat.pow_succ]
              omega
            · rw [cnt_next (dc := decM m) (fun k s hk hs => by show decM m (encM m _) = _; rw [decM_encM (stk_ok hD (hks k hk).2 (decM_ok hm hs))]) hlin, show n - (i + 1) + 1 = n - i by omega]
              exact hcnt
          · skip
            have hk1 : k < 8 * m * m := Nat.lt_of_not_le (fun q => c163 (nI_le q (by omega)))
            refine j_aload_n dX3_rowsTo_166 rfl ?_
            refine j_get 34 dX3_rowsTo_167 (by first | rfl | assumption) in_X3 rfl (by decide) q1133 rfl ?_
            refine j_iload dX3_rowsTo_170 rfl ?_
            refine j_aload_n dX3_rowsTo_172 rfl ?_
            refine j_get 35 dX3_rowsTo_173 (by first | rfl | assumption) in_X3 rfl (by decide) q1134 rfl ?_
            refine j_iload dX3_rowsTo_176 rfl ?_
            refine j_iald 0 k dX3_rowsTo_178 (by first | rfl | assumption) rfl rfl (by show k < 80000; omega) (by decide) ?_
            refine j_iast 0 k dX3_rowsTo_179 (by first | rfl | assumption) rfl rfl (by show k < 80000; omega) (by decide) ?_
            refine j_mdW (f := _) (by decide) (by decide) rfl ?_
            refine j_iinc dX3_rowsTo_180 rfl (by decide) rfl ?_
            refine j_goto (tgt := 157) dX3_rowsTo_183 (by decide) ?_
            refine j_less (L' := [some (.ref (r 100)), some (.int (nI n)), some (.int (nI v)), some (.int wo), some (.int (nI (encM m a))), some (.int (nI i)), some (.int (nI (k + 1))), none]) ⟨Or.inr rfl, Or.inr rfl, Or.inr rfl, Or.inr rfl, Or.inr rfl, Or.inr rfl, Or.inr (by rw [← nI_inc]), Or.inl rfl, trivial⟩ ?_
            refine ih9 (k + 1) _ ⟨by omega, fun q hq => ?_⟩ (by omega)
            by_cases hqk : q = k
            · subst hqk; exact pk_us
            · exact (pk_un hqk).trans (hz q (by omega))
        · skip
          have hsN2 : s < 8 * m * m := Nat.lt_of_not_le (fun q => c84 (nI_le q (by omega)))
          refine j_iconst (v := 0) dX3_rowsTo_87 (by decide) ?_
          refine j_istore dX3_rowsTo_88 (by decide) rfl ?_
          refine j_less (L' := [some (.ref (r 100)), some (.int (nI n)), some (.int (nI v)), some (.int wo), some (.int (nI (encM m a))), some (.int (nI i)), some (.int (nI s)), some (.int (nI 0))]) ⟨Or.inr rfl, Or.inr rfl, Or.inr rfl, Or.inr rfl, Or.inr rfl, Or.inr rfl, Or.inr rfl, Or.inr rfl, trivial⟩ ?_
          refine j_lp4 (fun (k : Nat) (b : A4) (t : Nat → Nat) (th : Nat → Int32) => (mdS r dT g (nI kd) bs fg m nk b.1 b.2.1 b.2.2.1 b.2.2.2 F tk (vo V [(109, wa), (110, th)]))) (fun k _ _ _ => [some (.ref (r 100)), some (.int (nI n)), some (.int (nI v)), some (.int wo), some (.int (nI (encM m a))), some (.int (nI i)), some (.int (nI s)), some (.int (nI k))]) (fun k b t th => okA m b ∧ k ≤ nk ∧ (∀ q, q < 8 * m * m → th q = nI (t q)) ∧ ∀ c : Nat → Nat, fb_sm (fun q => t q * c q) (8 * m * m) = fb_sm (fun q => w q * kS (fun k x => encM m (stk kd bs m (ks k) (decM m x))) wo c nk q) s + w s * kS (fun k x => encM m (stk kd bs m (ks k) (decM m x))) wo c k s) (fun k _ _ _ => nk - k) ?_ 0 b t th ⟨hb, Nat.zero_le _, hth, fun c => by rw [hlin c]; rfl⟩
          clear hlin hth th t hb b
          intro k b t th ⟨hb, hkK, hth, hlin⟩ ih3
          refine j_iload dX3_rowsTo_90 rfl ?_
          refine j_aload_n dX3_rowsTo_92 rfl ?_
          refine j_get 4 dX3_rowsTo_93 (by first | rfl | assumption) in_X3 rfl (by decide) q1103 rfl ?_
          refine j_icmp_ge (tgt := 148) dX3_rowsTo_96 (by decide) (fun c96 => ?_) (fun c96 => ?_)
          · skip
            have hkk : k = nk := by
              have := (nI_leI (by omega) (by omega)).mp c96
              omega
            have hlin2 : ∀ c : Nat → Nat, fb_sm (fun q => t q * c q) (8 * m * m) = fb_sm (fun q => w q * kS (fun k x => encM m (stk kd bs m (ks k) (decM m x))) wo c nk q) (s + 1) := fun c => by rw [hlin c, fb_sm_succ, hkk]
            refine j_iinc dX3_rowsTo_148 rfl (by decide) rfl ?_
            refine j_goto (tgt := 78) dX3_rowsTo_151 (by decide) ?_
            refine j_less (L' := [some (.ref (r 100)), some (.int (nI n)), some (.int (nI v)), some (.int wo), some (.int (nI (encM m a))), some (.int (nI i)), some (.int (nI (s + 1))), none]) ⟨Or.inr rfl, Or.inr rfl, Or.inr rfl, Or.inr rfl, Or.inr rfl, Or.inr rfl, Or.inr (by rw [← nI_inc]), Or.inl rfl, trivial⟩ ?_
            exact ih2 (s + 1) b t th ⟨hb, by omega, hth, fun c => hlin2 c⟩ (by omega)
          · skip
            have hkK2 : k < nk := Nat.lt_of_not_le (fun q => c96 (nI_le q (by omega)))
            have hox : okA m (stk kd bs m (ks k) (decM m s)) := stk_ok hD (hks k hkK2).2 (decM_ok hm hsN2)
            have hxl := encM_lt hox
            refine j_aload_n dX3_rowsTo_99 rfl ?_
            refine j_get 34 dX3_rowsTo_100 (by first | rfl | assumption) in_X3 rfl (by decide) q1133 rfl ?_
            refine j_iload dX3_rowsTo_103 rfl ?_
            refine j_iald 0 s dX3_rowsTo_105 (by first | rfl | assumption) rfl rfl (by show s < 80000; omega) (by decide) ?_
            refine j_eqi (show _ = nI (w s) from hwa s hsN2) ?_
            refine j_if_le (tgt := 148) dX3_rowsTo_106 (by decide) (fun c106 => ?_) (fun c106 => ?_)
            · skip
              have hw0 : w s = 0 := by
                rcases Nat.eq_zero_or_pos (w s) with q | q
                · exact q
                · exact absurd c106 (nI_nle q (hwb s hsN2))
              have hlin2 : ∀ c : Nat → Nat, fb_sm (fun q => t q * c q) (8 * m * m) = fb_sm (fun q => w q * kS (fun k x => encM m (stk kd bs m (ks k) (decM m x))) wo c nk q) (s + 1) := fun c => by rw [hlin c, fb_sm_succ, hw0, Nat.zero_mul, Nat.zero_mul]
              refine j_iinc dX3_rowsTo_148 rfl (by decide) rfl ?_
              refine j_goto (tgt := 78) dX3_rowsTo_151 (by decide) ?_
              refine j_less (L' := [some (.ref (r 100)), some (.int (nI n)), some (.int (nI v)), some (.int wo), some (.int (nI (encM m a))), some (.int (nI i)), some (.int (nI (s + 1))), none]) ⟨Or.inr rfl, Or.inr rfl, Or.inr rfl, Or.inr rfl, Or.inr rfl, Or.inr rfl, Or.inr (by rw [← nI_inc]), Or.inl rfl, trivial⟩ ?_
              exact ih2 (s + 1) b t th ⟨hb, by omega, hth, fun c => hlin2 c⟩ (by omega)
            · skip
              refine j_aload_n dX3_rowsTo_109 rfl ?_
              refine j_get 35 dX3_rowsTo_110 (by first | rfl | assumption) in_X3 rfl (by decide) q1134 rfl ?_
              refine j_aload_n dX3_rowsTo_113 rfl ?_
              refine j_iload dX3_rowsTo_114 rfl ?_
              refine j_iload dX3_rowsTo_116 rfl ?_
              refine j_callVi (m_behind (V := (vo V [(109, wa), (110, th)])) hD k (by omega) (ks k) (hks k hkK2).2 (hks k hkK2).1.w s hsN2) dX3_rowsTo_118 pmX3_behind q1356 q1358 qs46 (by first | rfl | assumption) rfl rfl rfl ⟨Nat.le_of_ble_eq_true rfl, Nat.le_of_ble_eq_true rfl⟩ ⟨Nat.le_of_ble_eq_true rfl, Nat.le_of_ble_eq_true rfl⟩ rfl (Nat.le_of_ble_eq_true rfl) ?_
              obtain ⟨to, hto⟩ : ∃ to, encM m (stk kd bs m (ks k) (decM m s)) = to := ⟨_, rfl⟩
              rw [hto] at hxl ⊢
              generalize hst9 : stk kd bs m (ks k) (decM m s) = b9 at hox hto ⊢
              refine j_dup2 dX3_rowsTo_121 rfl rfl ?_
              refine j_iald 0 to dX3_rowsTo_122 (by first | rfl | assumption) rfl rfl (by show to < 80000; omega) (by decide) ?_
              refine j_eqi (show _ = nI (t to) from hth to hxl) ?_
              refine j_join (tgt := 140) (fun x => x = nI (if nI k = wo then 0 else w s)) (fun v123 hv123 => ?_) (fun kj123 => ?_)
              · skip
                refine j_iadd dX3_rowsTo_140 ?_
                subst hv123
                refine j_eqi (nI_add _ _) ?_
                refine j_iast 0 to dX3_rowsTo_141 (by first | rfl | assumption) rfl rfl (by show to < 80000; omega) (by decide) ?_
                refine j_mdW (f := _) (by decide) (by decide) rfl ?_
                refine j_iinc dX3_rowsTo_142 rfl (by decide) rfl ?_
                refine j_goto (tgt := 90) dX3_rowsTo_145 (by decide) ?_
                refine j_less (L' := [some (.ref (r 100)), some (.int (nI n)), some (.int (nI v)), some (.int wo), some (.int (nI (encM m a))), some (.int (nI i)), some (.int (nI s)), some (.int (nI (k + 1)))]) ⟨Or.inr rfl, Or.inr rfl, Or.inr rfl, Or.inr rfl, Or.inr rfl, Or.inr rfl, Or.inr rfl, Or.inr (by rw [← nI_inc]), trivial⟩ ?_
                refine ih3 (k + 1) _ (va_up t to (t to + (if nI k = wo then 0 else w s))) _ ⟨hox, by omega, fun q hq => ?_, fun c => ?_⟩ (by omega)
                · by_cases hqt : q = to
                  · subst hqt; rw [va_up_self]; exact pk_us
                  · rw [va_up_ne _ _ hqt]; exact (pk_un hqt).trans (hth q hq)
                · rw [sm_upd hxl, hlin c]
                  have e1 : kS (fun k x => encM m (stk kd bs m (ks k) (decM m x))) wo c (k + 1) s = kS (fun k x => encM m (stk kd bs m (ks k) (decM m x))) wo c k s + (if nI k = wo then 0 else c to) := by
                    unfold kS
                    rw [fb_sm_succ, ← hto, ← hst9]
                  rw [e1, Nat.mul_add]
                  by_cases hq : nI k = wo
                  · rw [if_pos hq, if_pos hq]; omega
                  · rw [if_neg hq, if_neg hq]; omega
              · skip
                refine j_iload dX3_rowsTo_123 rfl ?_
                refine j_iload_n dX3_rowsTo_125 rfl ?_
                refine j_icmp_ne (tgt := 133) dX3_rowsTo_126 (by decide) (fun c126 => ?_) (fun c126 => ?_)
                · skip
                  have hj : nI (w s) = nI (if nI k = wo then 0 else w s) := by rw [if_neg c126]
                  refine j_aload_n dX3_rowsTo_133 rfl ?_
                  refine j_get 34 dX3_rowsTo_134 (by first | rfl | assumption) in_X3 rfl (by decide) q1133 rfl ?_
                  refine j_iload dX3_rowsTo_137 rfl ?_
                  refine j_iald 0 s dX3_rowsTo_139 (by first | rfl | assumption) rfl rfl (by show s < 80000; omega) (by decide) ?_
                  refine j_eqi (show _ = nI (w s) from hwa s hsN2) ?_
                  exact kj123 _ hj
                · skip
                  have hj : (0 : Int32) = nI (if nI k = wo then 0 else w s) := by rw [if_pos c126]; rfl
                  refine j_iconst (v := 0) dX3_rowsTo_129 (by decide) ?_
                  refine j_goto (tgt := 140) dX3_rowsTo_130 (by decide) ?_
                  exact kj123 _ hj
      · skip
        have hk1 : k < 8 * m * m := Nat.lt_of_not_le (fun q => c58 (nI_le q (by omega)))
        refine j_aload_n dX3_rowsTo_61 rfl ?_
        refine j_get 35 dX3_rowsTo_62 (by first | rfl | assumption) in_X3 rfl (by decide) q1134 rfl ?_
        refine j_iload dX3_rowsTo_65 rfl ?_
        refine j_iconst (v := 0) dX3_rowsTo_67 (by decide) ?_
        refine j_iast 0 k dX3_rowsTo_68 (by first | rfl | assumption) rfl rfl (by show k < 80000; omega) (by decide) ?_
        refine j_mdW (f := _) (by decide) (by decide) rfl ?_
        refine j_iinc dX3_rowsTo_69 rfl (by decide) rfl ?_
        refine j_goto (tgt := 52) dX3_rowsTo_72 (by decide) ?_
        refine j_less (L' := [some (.ref (r 100)), some (.int (nI n)), some (.int (nI v)), some (.int wo), some (.int (nI (encM m a))), some (.int (nI i)), some (.int (nI (k + 1))), none]) ⟨Or.inr rfl, Or.inr rfl, Or.inr rfl, Or.inr rfl, Or.inr rfl, Or.inr rfl, Or.inr (by rw [← nI_inc]), Or.inl rfl, trivial⟩ ?_
        refine ih9 (k + 1) _ ⟨by omega, fun q hq => ?_⟩ (by omega)
        by_cases hqk : q = k
        · subst hqk; exact pk_us
        · exact (pk_un hqk).trans (hz q (by omega))
  · skip
    have hk1 : k < 8 * m * m := Nat.lt_of_not_le (fun q => c15 (nI_le q (by omega)))
    refine j_aload_n dX3_rowsTo_18 rfl ?_
    refine j_get 34 dX3_rowsTo_19 (by first | rfl | assumption) in_X3 rfl (by decide) q1133 rfl ?_
    refine j_iload dX3_rowsTo_22 rfl ?_
    refine j_iconst (v := 0) dX3_rowsTo_24 (by decide) ?_
    refine j_iast 0 k dX3_rowsTo_25 (by first | rfl | assumption) rfl rfl (by show k < 80000; omega) (by decide) ?_
    refine j_mdW (f := _) (by decide) (by decide) rfl ?_
    refine j_iinc dX3_rowsTo_26 rfl (by decide) rfl ?_
    refine j_goto (tgt := 9) dX3_rowsTo_29 (by decide) ?_
    refine j_less (L' := [some (.ref (r 100)), some (.int (nI n)), some (.int (nI v)), some (.int wo), some (.int (nI (encM m a))), some (.int (nI (k + 1))), none, none]) ⟨Or.inr rfl, Or.inr rfl, Or.inr rfl, Or.inr rfl, Or.inr rfl, Or.inr (by rw [← nI_inc]), Or.inl rfl, Or.inl rfl, trivial⟩ ?_
    refine ih (k + 1) _ ⟨by omega, fun q hq => ?_⟩ (by omega)
    by_cases hqk : q = k
    · subst hqk; exact pk_us
    · exact (pk_un hqk).trans (hz q (by omega))
set_option maxHeartbeats 4000000 in
theorem m_strucko {l : Launch} {D : va_G} {dT : Nat → ClassId} {H0 : Heap} {r : Nat → Nat} {nx : Nat} {g : j_H} {kI : Int32} {bs fg m nk w x s t : Nat} {F : Nat → Nat} {tk : Int64} {V : Nat → Nat → Int32} (n v u : Int32) (hA : ¬ ((0 ≤ n ∧ n ≤ 8) ∧ (0 ≤ v ∧ v ≤ nI m - 1) ∧ (0 ≤ u ∧ u ≤ 1))) : MC (gG l D dT H0) yX3_struck cX3_struck 7 (some .int) 7 0 0 [.ref (r 100), .int n, .int v, .int u] r (mdS r dT g kI bs fg m nk w x s t F tk V) nx (jq_i (-1000000002) r (mdS r dT g kI bs fg m nk w x s t F tk V) nx) := by
  refine MC.ofJ [some (.ref (r 100)), some (.int n), some (.int v), some (.int u), none, none, none] rfl (Nat.le_of_ble_eq_true rfl) (by decide) ?_
  refine j_iload_n dX3_struck_0 rfl ?_
  refine j_iconst (v := 0) dX3_struck_1 (by decide) ?_
  refine j_bipush (v := 8) dX3_struck_2 (by decide) ?_
  refine j_callSi (c_X3_in _ _ _) dX3_struck_4 pmX3_in q1228 q1229 rfl ⟨Nat.le_of_ble_eq_true rfl, Nat.le_of_ble_eq_true rfl⟩ ⟨Nat.le_of_ble_eq_true rfl, Nat.le_of_ble_eq_true rfl⟩ rfl (Nat.le_of_ble_eq_true rfl) ?_
  refine j_ifb_eq (tgt := 27) dX3_struck_7 (by decide) (fun c7 => ?_) (fun c7 => ?_)
  · skip
    refine j_ldc dX3_struck_27 q1231 ?_
    refine j_iret dX3_struck_29 rfl rfl (Nat.le_refl _) (Nat.le_refl _) ?_
    exact jr_i rfl
  · skip
    refine j_aload_n dX3_struck_10 rfl ?_
    refine j_iload_n dX3_struck_11 rfl ?_
    refine j_callVi (m_isNumber _) dX3_struck_12 pmX3_isNumber q1336 q1338 qs41 (by first | rfl | assumption) rfl rfl rfl ⟨Nat.le_of_ble_eq_true rfl, Nat.le_of_ble_eq_true rfl⟩ ⟨Nat.le_of_ble_eq_true rfl, Nat.le_of_ble_eq_true rfl⟩ rfl (Nat.le_of_ble_eq_true rfl) ?_
    refine j_ifb_eq (tgt := 27) dX3_struck_15 (by decide) (fun c15 => ?_) (fun c15 => ?_)
    · skip
      refine j_ldc dX3_struck_27 q1231 ?_
      refine j_iret dX3_struck_29 rfl rfl (Nat.le_refl _) (Nat.le_refl _) ?_
      exact jr_i rfl
    · skip
      refine j_iload_n dX3_struck_18 rfl ?_
      refine j_iconst (v := 0) dX3_struck_19 (by decide) ?_
      refine j_iconst (v := 1) dX3_struck_20 (by decide) ?_
      refine j_callSi (c_X3_in _ _ _) dX3_struck_21 pmX3_in q1228 q1229 rfl ⟨Nat.le_of_ble_eq_true rfl, Nat.le_of_ble_eq_true rfl⟩ ⟨Nat.le_of_ble_eq_true rfl, Nat.le_of_ble_eq_true rfl⟩ rfl (Nat.le_of_ble_eq_true rfl) ?_
      refine j_ifb_ne (tgt := 30) dX3_struck_24 (by decide) (fun c24 => ?_) (fun c24 => ?_)
      · skip
        exact absurd ⟨c7, c15, c24⟩ hA
      · skip
        refine j_ldc dX3_struck_27 q1231 ?_
        refine j_iret dX3_struck_29 rfl rfl (Nat.le_refl _) (Nat.le_refl _) ?_
        exact jr_i rfl
set_option maxHeartbeats 4000000 in
theorem m_struck1 {l : Launch} {D : va_G} {dT : Nat → ClassId} {H0 : Heap} {r : Nat → Nat} {nx : Nat} {g : j_H} {kd bs fg m nk : Nat} {a : A4} {F : Nat → Nat} {tk : Int64} {V : Nat → Nat → Int32} (hD : okD kd bs m) (ha : okA m a) {ks : Nat → KY} (hks : mdKs (V 101) bs m nk ks) (hn8 : nk ≤ 8) (n v : Nat) (w : Int32) (hn : n ≤ 8) (hv : v < m) (hw : 0 ≤ w ∧ w ≤ 1) : MC (gG l D dT H0) yX3_struck cX3_struck 7 (some .int) 7 0 0 [.ref (r 100), .int (nI n), .int (nI v), .int w] r (mdS r dT g (nI kd) bs fg m nk a.1 a.2.1 a.2.2.1 a.2.2.2 F tk V) nx (jq_m (if w = 0 then nI (cntR (fun k a => stk kd bs m (ks k) a) nk v (-1) n a) else if 0 < (cntR (fun k a => stk kd bs m (ks k) a) nk v (-1) n a) then sset (fun k => cntR (fun k a => stk kd bs m (ks k) a) nk v (nI k) n a) nk else 0) r dT g (nI kd) bs fg m nk a F tk V nx) := by
  have hm := hD.pos
  have hm2 := hD.le
  have hm3 : 2 ≤ m := by have := hD.2.1; have := hD.2.2.2.1; omega
  have hkd := hD.1
  have hcb : ∀ wo a, cntR (fun k a => stk kd bs m (ks k) a) nk v wo n a < 2 ^ 31 := fun wo a => by
    have h1 := cntR_le (stp := (fun k a => stk kd bs m (ks k) a)) (v := v) (wo := wo) hn8 n a
    have h2 := p8_le hn
    omega
  refine MC.ofJ [some (.ref (r 100)), some (.int (nI n)), some (.int (nI v)), some (.int w), none, none, none] rfl (Nat.le_of_ble_eq_true rfl) (by decide) ?_
  refine j_iload_n dX3_struck_0 rfl ?_
  refine j_iconst (v := 0) dX3_struck_1 (by decide) ?_
  refine j_bipush (v := 8) dX3_struck_2 (by decide) ?_
  refine j_callSi (c_X3_in _ _ _) dX3_struck_4 pmX3_in q1228 q1229 rfl ⟨Nat.le_of_ble_eq_true rfl, Nat.le_of_ble_eq_true rfl⟩ ⟨Nat.le_of_ble_eq_true rfl, Nat.le_of_ble_eq_true rfl⟩ rfl (Nat.le_of_ble_eq_true rfl) ?_
  refine j_ifb_eq (tgt := 27) dX3_struck_7 (by decide) (fun c7 => absurd ⟨nI_pos' (by omega), nI_le (b := 8) hn (by decide)⟩ c7) (fun c7 => ?_)
  refine j_aload_n dX3_struck_10 rfl ?_
  refine j_iload_n dX3_struck_11 rfl ?_
  refine j_callVi (m_isNumber _) dX3_struck_12 pmX3_isNumber q1336 q1338 qs41 (by first | rfl | assumption) rfl rfl rfl ⟨Nat.le_of_ble_eq_true rfl, Nat.le_of_ble_eq_true rfl⟩ ⟨Nat.le_of_ble_eq_true rfl, Nat.le_of_ble_eq_true rfl⟩ rfl (Nat.le_of_ble_eq_true rfl) ?_
  refine j_ifb_eq (tgt := 27) dX3_struck_15 (by decide) (fun c15 => absurd (nI_inr hv (by omega)) c15) (fun c15 => ?_)
  refine j_iload_n dX3_struck_18 rfl ?_
  refine j_iconst (v := 0) dX3_struck_19 (by decide) ?_
  refine j_iconst (v := 1) dX3_struck_20 (by decide) ?_
  refine j_callSi (c_X3_in _ _ _) dX3_struck_21 pmX3_in q1228 q1229 rfl ⟨Nat.le_of_ble_eq_true rfl, Nat.le_of_ble_eq_true rfl⟩ ⟨Nat.le_of_ble_eq_true rfl, Nat.le_of_ble_eq_true rfl⟩ rfl (Nat.le_of_ble_eq_true rfl) ?_
  refine j_ifb_ne (tgt := 30) dX3_struck_24 (by decide) (fun c24 => ?_) (fun c24 => absurd hw c24)
  refine j_aload_n dX3_struck_30 rfl ?_
  refine j_iload_n dX3_struck_31 rfl ?_
  refine j_iload_n dX3_struck_32 rfl ?_
  refine j_iconst (v := (-1)) dX3_struck_33 (by decide) ?_
  refine j_callV (m_rowsTo (V := V) hD ha hks hn8 n v (-1) hn hv) jq_m.isR dX3_struck_34 pmX3_rowsTo q1437 q1439 qs55 (by first | rfl | assumption) rfl rfl rfl ⟨Nat.le_of_ble_eq_true rfl, Nat.le_of_ble_eq_true rfl⟩ ⟨Nat.le_of_ble_eq_true rfl, Nat.le_of_ble_eq_true rfl⟩ rfl (Nat.le_of_ble_eq_true rfl) ?_
  rintro v9 r h9 nx ⟨e9, rfl, rfl, V0, rfl, hV0⟩
  cases e9
  show J _ _ _ _ _ _ _ _ _ _ _ _ (.int _ :: _)
  refine j_istore dX3_struck_37 (by decide) rfl ?_
  refine j_iload_n dX3_struck_39 rfl ?_
  refine j_if_eq (tgt := 48) dX3_struck_40 (by decide) (fun c40 => ?_) (fun c40 => ?_)
  · skip
    refine j_iload dX3_struck_48 rfl ?_
    refine j_iret dX3_struck_50 rfl rfl (Nat.le_refl _) (Nat.le_refl _) ?_
    exact jm_i (if_pos c40).symm hV0
  · skip
    refine j_iload dX3_struck_43 rfl ?_
    refine j_if_ne (tgt := 51) dX3_struck_45 (by decide) (fun c45 => ?_) (fun c45 => ?_)
    · skip
      have ha0 : 0 < (cntR (fun k a => stk kd bs m (ks k) a) nk v (-1) n a) := by
        rcases Nat.eq_zero_or_pos (cntR (fun k a => stk kd bs m (ks k) a) nk v (-1) n a) with q | q
        · exact absurd (by rw [q]; rfl) c45
        · exact q
      refine j_iconst (v := 0) dX3_struck_51 (by decide) ?_
      refine j_istore dX3_struck_52 (by decide) rfl ?_
      refine j_iconst (v := 0) dX3_struck_54 (by decide) ?_
      refine j_istore dX3_struck_55 (by decide) rfl ?_
      refine j_re (L' := [some (.ref (r 100)), some (.int (nI n)), some (.int (nI v)), some (.int w), some (.int (nI (cntR (fun k a => stk kd bs m (ks k) a) nk v (-1) n a))), some (.int (sset (fun k => cntR (fun k a => stk kd bs m (ks k) a) nk v (nI k) n a) 0)), some (.int (nI 0))]) rfl rfl rfl ?_
      refine j_lp2 (fun (k : Nat) (V1 : Nat → Nat → Int32) => (mdS r dT g (nI kd) bs fg m nk a.1 a.2.1 a.2.2.1 a.2.2.2 F tk V1)) (fun k _ => [some (.ref (r 100)), some (.int (nI n)), some (.int (nI v)), some (.int w), some (.int (nI (cntR (fun k a => stk kd bs m (ks k) a) nk v (-1) n a))), some (.int (sset (fun k => cntR (fun k a => stk kd bs m (ks k) a) nk v (nI k) n a) k)), some (.int (nI k))]) (fun k V1 => k ≤ nk ∧ (∀ j, ¬ isMs j → V1 j = V j)) (fun k _ => nk - k) ?_ 0 V0 ⟨Nat.zero_le _, hV0⟩
      intro k V1 ⟨hkK, hV1⟩ ih
      have hks1 : mdKs (V1 101) bs m nk ks := by rw [hV1 101 (fun q => absurd q.1 (by decide))]; exact hks
      refine j_iload dX3_struck_57 rfl ?_
      refine j_aload_n dX3_struck_59 rfl ?_
      refine j_get 4 dX3_struck_60 (by first | rfl | assumption) in_X3 rfl (by decide) q1103 rfl ?_
      refine j_icmp_ge (tgt := 96) dX3_struck_63 (by decide) (fun c63 => ?_) (fun c63 => ?_)
      · skip
        have hkk : k = nk := by
          have := (nI_leI (by omega) (by omega)).mp c63
          omega
        refine j_iload dX3_struck_96 rfl ?_
        refine j_iret dX3_struck_98 rfl rfl (Nat.le_refl _) (Nat.le_refl _) ?_
        refine jm_i ?_ hV1
        rw [if_neg c40, if_pos ha0, hkk]
      · skip
        have hkK2 : k < nk := Nat.lt_of_not_le (fun q => c63 (nI_le q (by omega)))
        refine j_iload dX3_struck_66 rfl ?_
        refine j_aload_n dX3_struck_68 rfl ?_
        refine j_iload_n dX3_struck_69 rfl ?_
        refine j_iload_n dX3_struck_70 rfl ?_
        refine j_iload dX3_struck_71 rfl ?_
        refine j_callV (m_rowsTo (V := V1) hD ha hks1 hn8 n v (nI k) hn hv) jq_m.isR dX3_struck_73 pmX3_rowsTo q1437 q1439 qs55 (by first | rfl | assumption) rfl rfl rfl ⟨Nat.le_of_ble_eq_true rfl, Nat.le_of_ble_eq_true rfl⟩ ⟨Nat.le_of_ble_eq_true rfl, Nat.le_of_ble_eq_true rfl⟩ rfl (Nat.le_of_ble_eq_true rfl) ?_
        rintro v9 r h9 nx ⟨e9, rfl, rfl, V2, rfl, hV2⟩
        cases e9
        show J _ _ _ _ _ _ _ _ _ _ _ _ (.int _ :: _)
        refine j_if_ne (tgt := 86) dX3_struck_76 (by decide) (fun c76 => ?_) (fun c76 => ?_)
        · skip
          have c76 : ¬ (fun k => cntR (fun k a => stk kd bs m (ks k) a) nk v (nI k) n a) k = 0 := fun q => c76 (by show nI ((fun k => cntR (fun k a => stk kd bs m (ks k) a) nk v (nI k) n a) k) = 0; rw [q]; rfl)
          refine j_iconst (v := 0) dX3_struck_86 (by decide) ?_
          refine j_ior dX3_struck_87 ?_
          refine j_istore dX3_struck_88 (by decide) rfl ?_
          refine j_iinc dX3_struck_90 rfl (by decide) rfl ?_
          refine j_goto (tgt := 57) dX3_struck_93 (by decide) ?_
          refine j_re (L' := [some (.ref (r 100)), some (.int (nI n)), some (.int (nI v)), some (.int w), some (.int (nI (cntR (fun k a => stk kd bs m (ks k) a) nk v (-1) n a))), some (.int (sset (fun k => cntR (fun k a => stk kd bs m (ks k) a) nk v (nI k) n a) (k + 1))), some (.int (nI (k + 1)))]) ?_ rfl rfl (ih (k + 1) V2 ⟨by omega, (fun j hj => (hV2 j hj).trans (hV1 j hj))⟩ (by omega))
          rw [← nI_inc, sset, if_neg c76]
          rfl
        · skip
          have c76 : (fun k => cntR (fun k a => stk kd bs m (ks k) a) nk v (nI k) n a) k = 0 := (nI_eq (hcb _ _) (by decide)).mp c76
          refine j_iconst (v := 1) dX3_struck_79 (by decide) ?_
          refine j_iload dX3_struck_80 rfl ?_
          refine j_ishl dX3_struck_82 ?_
          refine j_goto (tgt := 87) dX3_struck_83 (by decide) ?_
          refine j_ior dX3_struck_87 ?_
          refine j_istore dX3_struck_88 (by decide) rfl ?_
          refine j_iinc dX3_struck_90 rfl (by decide) rfl ?_
          refine j_goto (tgt := 57) dX3_struck_93 (by decide) ?_
          refine j_re (L' := [some (.ref (r 100)), some (.int (nI n)), some (.int (nI v)), some (.int w), some (.int (nI (cntR (fun k a => stk kd bs m (ks k) a) nk v (-1) n a))), some (.int (sset (fun k => cntR (fun k a => stk kd bs m (ks k) a) nk v (nI k) n a) (k + 1))), some (.int (nI (k + 1)))]) ?_ rfl rfl (ih (k + 1) V2 ⟨by omega, (fun j hj => (hV2 j hj).trans (hV1 j hj))⟩ (by omega))
          rw [← nI_inc, sset, if_pos c76]
          rfl
    · skip
      have ha0 : ¬ 0 < (cntR (fun k a => stk kd bs m (ks k) a) nk v (-1) n a) := fun q => by
        have := (nI_eq (hcb _ _) (by decide)).mp (show nI (cntR (fun k a => stk kd bs m (ks k) a) nk v (-1) n a) = nI 0 from c45)
        omega
      refine j_iload dX3_struck_48 rfl ?_
      refine j_iret dX3_struck_50 rfl rfl (Nat.le_refl _) (Nat.le_refl _) ?_
      refine jm_i ?_ hV0
      rw [if_neg c40, if_neg ha0]
      exact c45
