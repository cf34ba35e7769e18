set_option maxRecDepth 100000
theorem w_one {w : Int32} (h : 0 ≤ w ∧ w ≤ 2) (h0 : ¬ w = 0) (h2 : ¬ w = 2) : w = 1 := by
  obtain ⟨h1, h3⟩ := h
  rw [Int32.le_iff_toInt_le, show (0 : Int32).toInt = 0 by decide] at h1
  rw [Int32.le_iff_toInt_le, show (2 : Int32).toInt = 2 by decide] at h3
  have e0 : ¬ w.toInt = 0 := fun q => h0 (Int32.toInt_inj.mp (q.trans (by decide)))
  have e2 : ¬ w.toInt = 2 := fun q => h2 (Int32.toInt_inj.mp (q.trans (by decide)))
  exact Int32.toInt_inj.mp (by rw [show (1 : Int32).toInt = 1 by decide]; omega)
def mrB (S : Nat → Int32) : Nat → Int32
  | 0 => -1
  | c + 1 => nI (mrG S (c + 1)).1
def mrL (S : Nat → Int32) : Nat → Int32
  | 0 => 0
  | c + 1 => (mrG S (c + 1)).2
theorem mrB_1 {S : Nat → Int32} {c : Nat} (hc : c < 2 ^ 20) : mrB S c = -1 ↔ c = 0 := by
  cases c with
  | zero => exact ⟨fun _ => rfl, fun _ => rfl⟩
  | succ c =>
    have h1 : (mrG S (c + 1)).1 ≤ c := mrG_lt
    exact ⟨fun q => absurd q (nI_m1 (by omega)), fun q => by cases q⟩
theorem mrB_t {S : Nat → Int32} {c : Nat} (h : S c < 999999) (h2 : c = 0 ∨ S c < mrL S c) : nI c = mrB S (c + 1) ∧ S c = mrL S (c + 1) := by
  have hg : S c < (mrG S c).2 := by
    cases c with
    | zero => exact h
    | succ c => exact h2.elim (fun q => by cases q) id
  show nI c = nI (mrG S (c + 1)).1 ∧ S c = (mrG S (c + 1)).2
  rw [mrG, if_pos hg]
  exact ⟨rfl, rfl⟩
theorem mrB_f {S : Nat → Int32} {c : Nat} (h : ¬ c = 0) (h2 : ¬ S c < mrL S c) : mrB S c = mrB S (c + 1) ∧ mrL S c = mrL S (c + 1) := by
  cases c with
  | zero => exact absurd rfl h
  | succ c =>
    have h2 : ¬ S (c + 1) < (mrG S (c + 1)).2 := h2
    have e : mrG S (c + 1 + 1) = mrG S (c + 1) := by rw [mrG, if_neg h2]
    show nI (mrG S (c + 1)).1 = nI (mrG S (c + 1 + 1)).1 ∧ (mrG S (c + 1)).2 = (mrG S (c + 1 + 1)).2
    rw [e]
    exact ⟨rfl, rfl⟩
theorem cnd_k {bs c : Nat} (h : c < bs + 4) : (cnd bs c).1 = if c < bs then 0 else c - bs + 1 := by
  unfold cnd
  split
  · rfl
  · split
    · rfl
    · show 4 = _; omega
theorem cnd_n {bs c : Nat} : kNum (cnd bs c) = if c < bs then nI c else -1 := by
  unfold cnd
  split
  · rfl
  · rename_i h
    split
    · rename_i h2
      refine if_neg (fun q => ?_)
      have q : c - bs + 1 = 0 ∨ c - bs + 1 = 6 ∨ c - bs + 1 = 7 := q
      omega
    · rfl
def q_mm (v : Int32) (r : Nat → Nat) (dT : Nat → ClassId) (g : j_H) (kI : Int32) (bs fg m nk : Nat) (a : A4) (F : Nat → Nat) (tk : Int64) (V : Nat → Nat → Int32) (nx : Nat) : j_Q := fun o r' h' nx' => o = .returned (some (.int v)) ∧ r' = r ∧ nx' = nx ∧ ∃ V' : Nat → Nat → Int32, h' = (mdS r dT g kI bs fg m nk a.1 a.2.1 a.2.2.1 a.2.2.2 F tk V') ∧ (∀ k, ¬ isMs k → k ≠ 101 → V' k = V k) ∧ ∀ j, j < 4 * nk → V' 101 j = V 101 j
theorem q_mm.isR {v : Int32} {r : Nat → Nat} {dT : Nat → ClassId} {g : j_H} {kI : Int32} {bs fg m nk : Nat} {a : A4} {F : Nat → Nat} {tk : Int64} {V : Nat → Nat → Int32} {nx : Nat} : j_isR (q_mm v r dT g kI bs fg m nk a F tk V nx) := fun _ _ _ _ hq => ⟨_, hq.1⟩
theorem cnd_w {bs nk c : Nat} {f : Nat → Int32} (h : c < bs + 4) : mdQw (upd (upd f (4 * nk) (nI (if c < bs then 0 else c - bs + 1))) (4 * nk + 2) (if c < bs then nI c else -1)) nk (cnd bs c) := by
  refine ⟨?_, fun q => ?_, fun q => ?_⟩
  · rw [pk_un (by omega), pk_us, cnd_k h]
  · rw [pk_us, ← cnd_n]
    exact if_pos q
  · rw [cnd_k h] at q
    split at q <;> omega
set_option maxHeartbeats 4000000 in
theorem m_more1 {l : Launch} {D : va_G} {dT : Nat → ClassId} {H0 : Heap} {r : Nat → Nat} {nx : Nat} {g : j_H} {kd bs fg m nk : Nat} {a : A4} {F : Nat → Nat} {tk : Int64} {V : Nat → Nat → Int32} (hD : okD kd bs m) (ha : okA m a) {ks : Nat → KY} (hks : mdKs (V 101) bs m nk ks) (hn8 : nk ≤ 8) (w : Int32) (hw : 0 ≤ w ∧ w ≤ 2) (tg : Nat → Nat) (htg : ∀ i, i < F 27 → V 104 i = nI (tg i) ∧ tg i < m) (hn6 : F 27 ≤ 6) : MC (gG l D dT H0) yX3_more cX3_more 7 (some .int) 7 0 0 [.ref (r 100), .int w] r (mdS r dT g (nI kd) bs fg m nk a.1 a.2.1 a.2.2.1 a.2.2.2 F tk V) nx (q_mm (if w = 0 then nI (cnd bs (mrG (fun c => smT (bN (bAll (fun k a => stk kd bs m (va_up ks nk (cnd bs c) k) a) (nk + 1) (8 * m * m) a)) tg (F 27)) (bs + 4)).1).1 else if w = 1 then kNum (cnd bs (mrG (fun c => smT (bN (bAll (fun k a => stk kd bs m (va_up ks nk (cnd bs c) k) a) (nk + 1) (8 * m * m) a)) tg (F 27)) (bs + 4)).1) else (mrG (fun c => smT (bN (bAll (fun k a => stk kd bs m (va_up ks nk (cnd bs c) k) a) (nk + 1) (8 * m * m) a)) tg (F 27)) (bs + 4)).2) r dT g (nI kd) bs fg m nk a F tk V nx) := by
  have hm := hD.pos
  have hm2 := hD.le
  have hm3 : 2 ≤ m := by have := hD.2.1; have := hD.2.2.2.1; omega
  have hkd := hD.1
  have hbs := hD.2.2.1
  obtain ⟨S, hS⟩ : ∃ S : Nat → Int32, S = (fun c => smT (bN (bAll (fun k a => stk kd bs m (va_up ks nk (cnd bs c) k) a) (nk + 1) (8 * m * m) a)) tg (F 27)) := ⟨_, rfl⟩
  rw [← hS]
  refine MC.ofJ [some (.ref (r 100)), some (.int w), none, none, none, none, none] rfl (Nat.le_of_ble_eq_true rfl) (by decide) ?_
  refine j_iload_n dX3_more_0 rfl ?_
  refine j_iconst (v := 0) dX3_more_1 (by decide) ?_
  refine j_iconst (v := 2) dX3_more_2 (by decide) ?_
  refine j_callSi (c_X3_in _ _ _) dX3_more_3 pmX3_in q1228 q1229 rfl ⟨Nat.le_of_ble_eq_true rfl, Nat.le_of_ble_eq_true rfl⟩ ⟨Nat.le_of_ble_eq_true rfl, Nat.le_of_ble_eq_true rfl⟩ rfl (Nat.le_of_ble_eq_true rfl) ?_
  refine j_ifb_ne (tgt := 12) dX3_more_6 (by decide) (fun c6 => ?_) (fun c6 => absurd hw c6)
  refine j_aload_n dX3_more_12 rfl ?_
  refine j_get 3 dX3_more_13 (by first | rfl | assumption) in_X3 rfl (by decide) q1102 rfl ?_
  refine j_if_ne (tgt := 23) dX3_more_16 (by decide) (fun c16 => ?_) (fun c16 => absurd c16 (nI_ne hm (by omega)))
  refine j_iconst (v := (-1)) dX3_more_23 (by decide) ?_
  refine j_istore_n dX3_more_24 (by decide) rfl ?_
  refine j_iconst (v := 0) dX3_more_25 (by decide) ?_
  refine j_istore_n dX3_more_26 (by decide) rfl ?_
  refine j_iconst (v := 0) dX3_more_27 (by decide) ?_
  refine j_istore dX3_more_28 (by decide) rfl ?_
  refine j_less (L' := [some (.ref (r 100)), some (.int w), some (.int (mrB S 0)), some (.int (mrL S 0)), some (.int (nI 0)), none, none]) ⟨Or.inr rfl, Or.inr rfl, Or.inr rfl, Or.inr rfl, Or.inr rfl, Or.inl rfl, Or.inl rfl, trivial⟩ ?_
  refine j_lp2 (fun (c : Nat) (V1 : Nat → Nat → Int32) => (mdS r dT g (nI kd) bs fg m nk a.1 a.2.1 a.2.2.1 a.2.2.2 F tk V1)) (fun c _ => [some (.ref (r 100)), some (.int w), some (.int (mrB S c)), some (.int (mrL S c)), some (.int (nI c)), none, none]) (fun c V1 => c ≤ bs + 4 ∧ (∀ k, ¬ isMs k → k ≠ 101 → V1 k = V k) ∧ ∀ j, j < 4 * nk → V1 101 j = V 101 j) (fun c _ => bs + 4 - c) ?_ 0 V ⟨Nat.zero_le _, fun _ _ _ => rfl, fun _ _ => rfl⟩
  intro c V1 ⟨hc, hV1, hV2⟩ ih
  refine j_iload dX3_more_30 rfl ?_
  refine j_aload_n dX3_more_32 rfl ?_
  refine j_get 1 dX3_more_33 (by first | rfl | assumption) in_X3 rfl (by decide) q1100 rfl ?_
  refine j_iconst (v := 4) dX3_more_36 (by decide) ?_
  refine j_iadd dX3_more_37 ?_
  refine j_eqi (show _ = nI (bs + 4) from nI_add bs 4) ?_
  refine j_icmp_ge (tgt := 162) dX3_more_38 (by decide) (fun c38 => ?_) (fun c38 => ?_)
  · skip
    have hce : c = bs + 4 := by
      have := (nI_leI (by omega) (by omega)).mp c38
      omega
    subst hce
    have hbe : mrB S (bs + 4) = nI (mrG S (bs + 4)).1 := rfl
    have hbl : (mrG S (bs + 4)).1 ≤ bs + 3 := mrG_lt
    have hle : mrL S (bs + 4) = (mrG S (bs + 4)).2 := rfl
    have hck := cnd_k (bs := bs) (c := (mrG S (bs + 4)).1) (by omega)
    have hcn := cnd_n (bs := bs) (c := (mrG S (bs + 4)).1)
    refine j_join (tgt := 211) (fun x => x = (if w = 0 then nI (cnd bs (mrG S (bs + 4)).1).1 else if w = 1 then kNum (cnd bs (mrG S (bs + 4)).1) else (mrG S (bs + 4)).2)) (fun v162 hv162 => ?_) (fun kj162 => ?_)
    · skip
      refine j_iret dX3_more_211 rfl rfl (Nat.le_refl _) (Nat.le_refl _) ?_
      exact ⟨by rw [hv162], rfl, rfl, V1, rfl, hV1, hV2⟩
    · skip
      refine j_iload_n dX3_more_162 rfl ?_
      refine j_iconst (v := 2) dX3_more_163 (by decide) ?_
      refine j_icmp_ne (tgt := 171) dX3_more_164 (by decide) (fun c164 => ?_) (fun c164 => ?_)
      · skip
        have h164 : ¬ w = 2 := c164
        refine j_iload_n dX3_more_171 rfl ?_
        refine j_if_ne (tgt := 198) dX3_more_172 (by decide) (fun c172 => ?_) (fun c172 => ?_)
        · skip
          have h172 : ¬ w = 0 := c172
          have hw1 : w = 1 := w_one hw h172 h164
          refine j_iload_n dX3_more_198 rfl ?_
          refine j_aload_n dX3_more_199 rfl ?_
          refine j_get 1 dX3_more_200 (by first | rfl | assumption) in_X3 rfl (by decide) q1100 rfl ?_
          refine j_icmp_ge (tgt := 210) dX3_more_203 (by decide) (fun c203 => ?_) (fun c203 => ?_)
          · skip
            rw [hbe] at c203
            have h203 : ¬ (mrG S (bs + 4)).1 < bs := by
              have := (nI_leI (by omega) (by omega)).mp c203
              omega
            have hj : (-1 : Int32) = (if w = 0 then nI (cnd bs (mrG S (bs + 4)).1).1 else if w = 1 then kNum (cnd bs (mrG S (bs + 4)).1) else (mrG S (bs + 4)).2) := by rw [if_neg h172, if_pos hw1, hcn, if_neg h203]
            refine j_iconst (v := (-1)) dX3_more_210 (by decide) ?_
            exact kj162 _ hj
          · skip
            rw [hbe] at c203
            have h203 : (mrG S (bs + 4)).1 < bs := Nat.lt_of_not_le (fun q => c203 (nI_le q (by omega)))
            have hj : mrB S (bs + 4) = (if w = 0 then nI (cnd bs (mrG S (bs + 4)).1).1 else if w = 1 then kNum (cnd bs (mrG S (bs + 4)).1) else (mrG S (bs + 4)).2) := by rw [if_neg h172, if_pos hw1, hcn, if_pos h203, hbe]
            refine j_iload_n dX3_more_206 rfl ?_
            refine j_goto (tgt := 211) dX3_more_207 (by decide) ?_
            exact kj162 _ hj
        · skip
          have h172 : w = 0 := c172
          refine j_iload_n dX3_more_175 rfl ?_
          refine j_aload_n dX3_more_176 rfl ?_
          refine j_get 1 dX3_more_177 (by first | rfl | assumption) in_X3 rfl (by decide) q1100 rfl ?_
          refine j_icmp_ge (tgt := 187) dX3_more_180 (by decide) (fun c180 => ?_) (fun c180 => ?_)
          · skip
            rw [hbe] at c180
            have h180 : ¬ (mrG S (bs + 4)).1 < bs := by
              have := (nI_leI (by omega) (by omega)).mp c180
              omega
            have hj : mrB S (bs + 4) - nI bs + 1 = (if w = 0 then nI (cnd bs (mrG S (bs + 4)).1).1 else if w = 1 then kNum (cnd bs (mrG S (bs + 4)).1) else (mrG S (bs + 4)).2) := by rw [if_pos h172, hck, if_neg h180, hbe, nI_sub (by omega)]; exact nI_1 _
            refine j_iload_n dX3_more_187 rfl ?_
            refine j_aload_n dX3_more_188 rfl ?_
            refine j_get 1 dX3_more_189 (by first | rfl | assumption) in_X3 rfl (by decide) q1100 rfl ?_
            refine j_isub dX3_more_192 ?_
            refine j_iconst (v := 1) dX3_more_193 (by decide) ?_
            refine j_iadd dX3_more_194 ?_
            refine j_goto (tgt := 211) dX3_more_195 (by decide) ?_
            exact kj162 _ hj
          · skip
            rw [hbe] at c180
            have h180 : (mrG S (bs + 4)).1 < bs := Nat.lt_of_not_le (fun q => c180 (nI_le q (by omega)))
            have hj : (0 : Int32) = (if w = 0 then nI (cnd bs (mrG S (bs + 4)).1).1 else if w = 1 then kNum (cnd bs (mrG S (bs + 4)).1) else (mrG S (bs + 4)).2) := by rw [if_pos h172, hck, if_pos h180]; rfl
            refine j_iconst (v := 0) dX3_more_183 (by decide) ?_
            refine j_goto (tgt := 211) dX3_more_184 (by decide) ?_
            exact kj162 _ hj
      · skip
        have hj : mrL S (bs + 4) = (if w = 0 then nI (cnd bs (mrG S (bs + 4)).1).1 else if w = 1 then kNum (cnd bs (mrG S (bs + 4)).1) else (mrG S (bs + 4)).2) := by rw [if_neg (by rw [c164]; decide), if_neg (by rw [c164]; decide), hle]
        refine j_iload_n dX3_more_167 rfl ?_
        refine j_goto (tgt := 211) dX3_more_168 (by decide) ?_
        exact kj162 _ hj
  · skip
    have hcl : c < bs + 4 := Nat.lt_of_not_le (fun q => c38 (nI_le q (by omega)))
    refine j_re rfl rfl (h' := (mdS r dT g (nI kd) bs fg m nk a.1 a.2.1 a.2.2.1 a.2.2.2 F tk (vo V1 [(101, V1 101)]))) (by rw [vo_same _ (by simp)]) ?_
    refine j_aload_n dX3_more_41 rfl ?_
    refine j_get 5 dX3_more_42 (by first | rfl | assumption) in_X3 rfl (by decide) q1104 rfl ?_
    refine j_iconst (v := 4) dX3_more_45 (by decide) ?_
    refine j_aload_n dX3_more_46 rfl ?_
    refine j_get 4 dX3_more_47 (by first | rfl | assumption) in_X3 rfl (by decide) q1103 rfl ?_
    refine j_imul dX3_more_50 ?_
    refine j_join (tgt := 73) (fun x => x = nI (if c < bs then 0 else c - bs + 1)) (fun v51 hv51 => ?_) (fun kj51 => ?_)
    · skip
      subst hv51
      refine j_iast 0 (4 * nk) dX3_more_73 (by first | rfl | assumption) rfl (by rw [show (4 : Int32) = nI 4 from rfl, pk_mul]) (by show _ < 36; omega) (by decide) ?_
      refine j_mdW (f := upd (V1 101) (4 * nk) (nI (if c < bs then 0 else c - bs + 1))) (by decide) (by decide) rfl ?_
      refine j_aload_n dX3_more_74 rfl ?_
      refine j_get 5 dX3_more_75 (by first | rfl | assumption) in_X3 rfl (by decide) q1104 rfl ?_
      refine j_iconst (v := 4) dX3_more_78 (by decide) ?_
      refine j_aload_n dX3_more_79 rfl ?_
      refine j_get 4 dX3_more_80 (by first | rfl | assumption) in_X3 rfl (by decide) q1103 rfl ?_
      refine j_imul dX3_more_83 ?_
      refine j_iconst (v := 2) dX3_more_84 (by decide) ?_
      refine j_iadd dX3_more_85 ?_
      refine j_join (tgt := 101) (fun x => x = (if c < bs then nI c else -1)) (fun v86 hv86 => ?_) (fun kj86 => ?_)
      · skip
        subst hv86
        refine j_iast 0 (4 * nk + 2) dX3_more_101 (by first | rfl | assumption) rfl (by rw [show (4 : Int32) = nI 4 from rfl, pk_mul, show (2 : Int32) = nI 2 from rfl, nI_add]) (by show _ < 36; omega) (by decide) ?_
        refine j_mdW (f := (upd (upd (V1 101) (4 * nk) (nI (if c < bs then 0 else c - bs + 1))) (4 * nk + 2) (if c < bs then nI c else -1))) (by decide) (by decide) rfl ?_
        refine j_aload_n dX3_more_102 rfl ?_
        refine j_aload_n dX3_more_103 rfl ?_
        refine j_get 4 dX3_more_104 (by first | rfl | assumption) in_X3 rfl (by decide) q1103 rfl ?_
        refine j_iconst (v := 1) dX3_more_107 (by decide) ?_
        refine j_iadd dX3_more_108 ?_
        refine j_eqi (show _ = nI (nk + 1) from nI_1 _) ?_
        have hcl2 : c < bs + 4 := hcl
        have hkw : mdKw ((vo V1 [(101, (upd (upd (V1 101) (4 * nk) (nI (if c < bs then 0 else c - bs + 1))) (4 * nk + 2) (if c < bs then nI c else -1)))]) 101) bs m (nk + 1) (va_up ks nk (cnd bs c)) := by
          intro k hk
          show mdQw (upd (upd (V1 101) (4 * nk) (nI (if c < bs then 0 else c - bs + 1))) (4 * nk + 2) (if c < bs then nI c else -1)) k _ ∧ _
          by_cases he : k = nk
          · subst he
            rw [va_up_self]
            exact ⟨cnd_w hcl, cnd_ok⟩
          · rw [va_up_ne _ _ he]
            have h1 := (hks k (by omega)).1.w
            have e : ∀ j, j < 4 * nk → (upd (upd (V1 101) (4 * nk) (nI (if c < bs then 0 else c - bs + 1))) (4 * nk + 2) (if c < bs then nI c else -1)) j = V 101 j := fun j hj => by rw [pk_un (by omega), pk_un (by omega)]; exact hV2 j hj
            refine ⟨⟨(e _ (by omega)).trans h1.1, fun q => (e _ (by omega)).trans (h1.2.1 q), fun q => (e _ (by omega)).trans (h1.2.2 q)⟩, (hks k (by omega)).2⟩
        have htg2 : ∀ i, i < F 27 → (vo V1 [(101, (upd (upd (V1 101) (4 * nk) (nI (if c < bs then 0 else c - bs + 1))) (4 * nk + 2) (if c < bs then nI c else -1)))]) 104 i = nI (tg i) ∧ tg i < m := by
          intro i hi
          have e : (vo V1 [(101, (upd (upd (V1 101) (4 * nk) (nI (if c < bs then 0 else c - bs + 1))) (4 * nk + 2) (if c < bs then nI c else -1)))]) 104 = V 104 := hV1 104 (fun q => absurd q.1 (by decide)) (by decide)
          rw [e]
          exact htg i hi
        refine j_callV (m_allFewest (V := vo V1 [(101, (upd (upd (V1 101) (4 * nk) (nI (if c < bs then 0 else c - bs + 1))) (4 * nk + 2) (if c < bs then nI c else -1)))]) hD ha (K := nk + 1) (ks := va_up ks nk (cnd bs c)) hkw (by omega) tg htg2 hn6) (q_all.isR jq_m.isR) dX3_more_109 pmX3_allFewest q1409 q1411 qs51 (by first | rfl | assumption) rfl rfl rfl ⟨Nat.le_of_ble_eq_true rfl, Nat.le_of_ble_eq_true rfl⟩ ⟨Nat.le_of_ble_eq_true rfl, Nat.le_of_ble_eq_true rfl⟩ rfl (Nat.le_of_ble_eq_true rfl) ?_
        rintro v9 r h9 nx ⟨⟨e9, rfl, rfl, V9, rfl, hV9⟩, hS9⟩
        cases e9
        rw [show smT (bN (bAll (fun k a => stk kd bs m (va_up ks nk (cnd bs c) k) a) (nk + 1) (8 * m * m) a)) tg (F 27) = S c by rw [hS]] at hS9 ⊢
        refine j_istore dX3_more_112 (by decide) rfl ?_
        refine j_join (tgt := 130) (fun x => (x = 0 → ¬ (c = 0 ∨ S c < mrL S c)) ∧ (¬ x = 0 → (c = 0 ∨ S c < mrL S c))) (fun v114 hv114 => ?_) (fun kj114 => ?_)
        · skip
          refine j_istore dX3_more_130 (by decide) rfl ?_
          refine j_join (tgt := 143) (fun x => x = mrB S (c + 1)) (fun v132 hv132 => ?_) (fun kj132 => ?_)
          · skip
            subst hv132
            refine j_istore_n dX3_more_143 (by decide) rfl ?_
            refine j_join (tgt := 155) (fun x => x = mrL S (c + 1)) (fun v144 hv144 => ?_) (fun kj144 => ?_)
            · skip
              subst hv144
              refine j_istore_n dX3_more_155 (by decide) rfl ?_
              refine j_iinc dX3_more_156 rfl (by decide) rfl ?_
              refine j_goto (tgt := 30) dX3_more_159 (by decide) ?_
              refine j_less (L' := [some (.ref (r 100)), some (.int w), some (.int (mrB S (c + 1))), some (.int (mrL S (c + 1))), some (.int (nI (c + 1))), none, none]) ⟨Or.inr rfl, Or.inr rfl, Or.inr rfl, Or.inr rfl, Or.inr (by rw [← nI_inc]), Or.inl rfl, Or.inl rfl, trivial⟩ ?_
              refine ih (c + 1) V9 ⟨by omega, fun k h1 h2 => ?_, fun j hj => ?_⟩ (by omega)
              · rw [hV9 k h1]
                exact (vo_ne (fun q hq e => by rw [List.mem_singleton.mp hq] at e; exact h2 e.symm)).trans (hV1 k h1 h2)
              · rw [hV9 101 (fun q => absurd q.1 (by decide))]
                show (upd (upd (V1 101) (4 * nk) (nI (if c < bs then 0 else c - bs + 1))) (4 * nk + 2) (if c < bs then nI c else -1)) j = _
                rw [pk_un (by omega), pk_un (by omega)]
                exact hV2 j hj
            · skip
              refine j_iload dX3_more_144 rfl ?_
              refine j_if_eq (tgt := 154) dX3_more_146 (by decide) (fun c146 => ?_) (fun c146 => ?_)
              · skip
                have h146 := hv114.1 c146
                have hj : mrL S c = mrL S (c + 1) := (mrB_f (fun q => h146 (Or.inl q)) (fun q => h146 (Or.inr q))).2
                refine j_iload_n dX3_more_154 rfl ?_
                exact kj144 _ hj
              · skip
                have hj : S c = mrL S (c + 1) := (mrB_t hS9 (hv114.2 c146)).2
                refine j_iload dX3_more_149 rfl ?_
                refine j_goto (tgt := 155) dX3_more_151 (by decide) ?_
                exact kj144 _ hj
          · skip
            refine j_iload dX3_more_132 rfl ?_
            refine j_if_eq (tgt := 142) dX3_more_134 (by decide) (fun c134 => ?_) (fun c134 => ?_)
            · skip
              have h134 := hv114.1 c134
              have hj : mrB S c = mrB S (c + 1) := (mrB_f (fun q => h134 (Or.inl q)) (fun q => h134 (Or.inr q))).1
              refine j_iload_n dX3_more_142 rfl ?_
              exact kj132 _ hj
            · skip
              have hj : nI c = mrB S (c + 1) := (mrB_t hS9 (hv114.2 c134)).1
              refine j_iload dX3_more_137 rfl ?_
              refine j_goto (tgt := 143) dX3_more_139 (by decide) ?_
              exact kj132 _ hj
        · skip
          refine j_iload_n dX3_more_114 rfl ?_
          refine j_iconst (v := (-1)) dX3_more_115 (by decide) ?_
          refine j_icmp_eq (tgt := 125) dX3_more_116 (by decide) (fun c116 => ?_) (fun c116 => ?_)
          · skip
            have h116 : c = 0 := (mrB_1 (by omega)).mp c116
            have hj : ((1 : Int32) = 0 → ¬ (c = 0 ∨ S c < mrL S c)) ∧ (¬ (1 : Int32) = 0 → (c = 0 ∨ S c < mrL S c)) := pI_t rfl (Or.inl h116)
            refine j_iconst (v := 1) dX3_more_125 (by decide) ?_
            refine j_goto (tgt := 130) dX3_more_126 (by decide) ?_
            exact kj114 _ hj
          · skip
            have h116 : ¬ c = 0 := fun q => c116 ((mrB_1 (by omega)).mpr q)
            refine j_iload dX3_more_119 rfl ?_
            refine j_iload_n dX3_more_121 rfl ?_
            refine j_icmp_ge (tgt := 129) dX3_more_122 (by decide) (fun c122 => ?_) (fun c122 => ?_)
            · skip
              have hj : ((0 : Int32) = 0 → ¬ (c = 0 ∨ S c < mrL S c)) ∧ (¬ (0 : Int32) = 0 → (c = 0 ∨ S c < mrL S c)) := pI_f rfl (fun q => q.elim h116 (fun q => absurd q (Int32.not_lt.mpr c122)))
              refine j_iconst (v := 0) dX3_more_129 (by decide) ?_
              exact kj114 _ hj
            · skip
              have hj : ((1 : Int32) = 0 → ¬ (c = 0 ∨ S c < mrL S c)) ∧ (¬ (1 : Int32) = 0 → (c = 0 ∨ S c < mrL S c)) := pI_t rfl (Or.inr (Int32.not_le.mp c122))
              refine j_iconst (v := 1) dX3_more_125 (by decide) ?_
              refine j_goto (tgt := 130) dX3_more_126 (by decide) ?_
              exact kj114 _ hj
      · skip
        refine j_iload dX3_more_86 rfl ?_
        refine j_aload_n dX3_more_88 rfl ?_
        refine j_get 1 dX3_more_89 (by first | rfl | assumption) in_X3 rfl (by decide) q1100 rfl ?_
        refine j_icmp_ge (tgt := 100) dX3_more_92 (by decide) (fun c92 => ?_) (fun c92 => ?_)
        · skip
          have h92 : ¬ c < bs := by
            have := (nI_leI (by omega) (by omega)).mp c92
            omega
          have hj : (-1 : Int32) = (if c < bs then nI c else -1) := by rw [if_neg h92]
          refine j_iconst (v := (-1)) dX3_more_100 (by decide) ?_
          exact kj86 _ hj
        · skip
          have h92 : c < bs := Nat.lt_of_not_le (fun q => c92 (nI_le q (by omega)))
          have hj : nI c = (if c < bs then nI c else -1) := by rw [if_pos h92]
          refine j_iload dX3_more_95 rfl ?_
          refine j_goto (tgt := 101) dX3_more_97 (by decide) ?_
          exact kj86 _ hj
    · skip
      refine j_iload dX3_more_51 rfl ?_
      refine j_aload_n dX3_more_53 rfl ?_
      refine j_get 1 dX3_more_54 (by first | rfl | assumption) in_X3 rfl (by decide) q1100 rfl ?_
      refine j_icmp_ge (tgt := 64) dX3_more_57 (by decide) (fun c57 => ?_) (fun c57 => ?_)
      · skip
        have h57 : ¬ c < bs := by
          have := (nI_leI (by omega) (by omega)).mp c57
          omega
        have hj : nI c - nI bs + 1 = nI (if c < bs then 0 else c - bs + 1) := by rw [if_neg h57, nI_sub (by omega)]; exact nI_1 _
        refine j_iload dX3_more_64 rfl ?_
        refine j_aload_n dX3_more_66 rfl ?_
        refine j_get 1 dX3_more_67 (by first | rfl | assumption) in_X3 rfl (by decide) q1100 rfl ?_
        refine j_isub dX3_more_70 ?_
        refine j_iconst (v := 1) dX3_more_71 (by decide) ?_
        refine j_iadd dX3_more_72 ?_
        exact kj51 _ hj
      · skip
        have h57 : c < bs := Nat.lt_of_not_le (fun q => c57 (nI_le q (by omega)))
        have hj : (0 : Int32) = nI (if c < bs then 0 else c - bs + 1) := by rw [if_pos h57]; rfl
        refine j_iconst (v := 0) dX3_more_60 (by decide) ?_
        refine j_goto (tgt := 73) dX3_more_61 (by decide) ?_
        exact kj51 _ hj
set_option maxHeartbeats 4000000 in
theorem m_moreo {l : Launch} {D : va_G} {dT : Nat → ClassId} {H0 : Heap} {r : Nat → Nat} {nx : Nat} {g : j_H} {kI : Int32} {bs fg m nk w x s t : Nat} {F : Nat → Nat} {tk : Int64} {V : Nat → Nat → Int32} (u : Int32) (hu : ¬ (0 ≤ u ∧ u ≤ 2)) : MC (gG l D dT H0) yX3_more cX3_more 7 (some .int) 7 0 0 [.ref (r 100), .int u] r (mdS r dT g kI bs fg m nk w x s t F tk V) nx (jq_i (-1000000002) r (mdS r dT g kI bs fg m nk w x s t F tk V) nx) := by
  refine MC.ofJ [some (.ref (r 100)), some (.int u), none, none, none, none, none] rfl (Nat.le_of_ble_eq_true rfl) (by decide) ?_
  refine j_iload_n dX3_more_0 rfl ?_
  refine j_iconst (v := 0) dX3_more_1 (by decide) ?_
  refine j_iconst (v := 2) dX3_more_2 (by decide) ?_
  refine j_callSi (c_X3_in _ _ _) dX3_more_3 pmX3_in q1228 q1229 rfl ⟨Nat.le_of_ble_eq_true rfl, Nat.le_of_ble_eq_true rfl⟩ ⟨Nat.le_of_ble_eq_true rfl, Nat.le_of_ble_eq_true rfl⟩ rfl (Nat.le_of_ble_eq_true rfl) ?_
  refine j_ifb_ne (tgt := 12) dX3_more_6 (by decide) (fun c6 => absurd c6 hu) (fun c6 => ?_)
  refine j_ldc dX3_more_9 q1231 ?_
  refine j_iret dX3_more_11 rfl rfl (Nat.le_refl _) (Nat.le_refl _) ?_
  exact ⟨rfl, rfl, rfl, rfl⟩
set_option maxHeartbeats 4000000 in
theorem m_more0 {l : Launch} {D : va_G} {dT : Nat → ClassId} {H0 : Heap} {r : Nat → Nat} {nx : Nat} {g : j_H} {kI : Int32} {bs fg nk w x s t : Nat} {F : Nat → Nat} {tk : Int64} {V : Nat → Nat → Int32} (u : Int32) (hu : 0 ≤ u ∧ u ≤ 2) : MC (gG l D dT H0) yX3_more cX3_more 7 (some .int) 7 0 0 [.ref (r 100), .int u] r (mdS r dT g kI bs fg 0 nk w x s t F tk V) nx (jq_i (-1000000003) r (mdS r dT g kI bs fg 0 nk w x s t F tk V) nx) := by
  refine MC.ofJ [some (.ref (r 100)), some (.int u), none, none, none, none, none] rfl (Nat.le_of_ble_eq_true rfl) (by decide) ?_
  refine j_iload_n dX3_more_0 rfl ?_
  refine j_iconst (v := 0) dX3_more_1 (by decide) ?_
  refine j_iconst (v := 2) dX3_more_2 (by decide) ?_
  refine j_callSi (c_X3_in _ _ _) dX3_more_3 pmX3_in q1228 q1229 rfl ⟨Nat.le_of_ble_eq_true rfl, Nat.le_of_ble_eq_true rfl⟩ ⟨Nat.le_of_ble_eq_true rfl, Nat.le_of_ble_eq_true rfl⟩ rfl (Nat.le_of_ble_eq_true rfl) ?_
  refine j_ifb_ne (tgt := 12) dX3_more_6 (by decide) (fun c6 => ?_) (fun c6 => absurd hu c6)
  refine j_aload_n dX3_more_12 rfl ?_
  refine j_get 3 dX3_more_13 (by first | rfl | assumption) in_X3 rfl (by decide) q1102 rfl ?_
  refine j_if_ne (tgt := 23) dX3_more_16 (by decide) (fun c16 => absurd rfl c16) (fun c16 => ?_)
  refine j_ldcw dX3_more_19 q1392 ?_
  refine j_iret dX3_more_22 rfl rfl (Nat.le_refl _) (Nat.le_refl _) ?_
  exact ⟨rfl, rfl, rfl, rfl⟩
