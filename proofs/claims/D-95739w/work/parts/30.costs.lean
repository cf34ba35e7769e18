set_option maxRecDepth 100000
theorem nI_dec (n : Nat) : nI (n + 1) + Int32.ofInt (-1) = nI n := by
  rw [i32_dec, ← nI_1, Int32.add_sub_cancel]
theorem far_eq : (999999 : Int32) = nI 999999 := rfl
/-- the costs stand in the array -/
def cstR (N : Nat) (c : Nat → Nat) (ca : Nat → Int32) : Prop := ∀ x, x < N → ca x = nI (c x)
theorem cstR.up {N t v : Nat} {c : Nat → Nat} {ca : Nat → Int32} (h : cstR N c ca) : cstR N (va_up c t v) (upd ca t (nI v)) := by
  intro x hx
  by_cases he : x = t
  · subst he; rw [pk_us, va_up_self]
  · rw [pk_un he, va_up_ne _ _ he]; exact h x hx
def q_costs (r : Nat → Nat) (dT : Nat → ClassId) (g : j_H) (F : Nat → Nat) (V : Nat → Nat → Int32) (nx N : Nat) (P : (Nat → Nat) → Prop) : j_Q := fun o r' h' nx' => o = .returned none ∧ r' = r ∧ nx' = nx ∧ ∃ (rw' ca wa : Nat → Int32) (c : Nat → Nat), h' = fkS r dT g F (vo V [(7, rw'), (11, ca), (12, wa)]) ∧ cstR N c ca ∧ P c
theorem q_costs.isR {r : Nat → Nat} {dT : Nat → ClassId} {g : j_H} {F : Nat → Nat} {V : Nat → Nat → Int32} {nx N : Nat} {P : (Nat → Nat) → Prop} : j_isR (q_costs r dT g F V nx N P) := fun _ _ _ _ hq => ⟨_, hq.1⟩
theorem sp_start {st : Nat → Nat → Nat} {K : Nat} {w : Nat → Nat} {N FR s0 : Nat} (hs : s0 < N) (hF : 0 < FR) (hst : ∀ k x, k < K → x < N → st k x < N) : spI st K w (fun x n => x = s0 ∧ n = 0) N FR (fun _ _ => False) (va_up (fun _ => FR) s0 0) [s0] := by
  refine ⟨by simp, fun x hx => ?_, fun x hx => ?_, fun x n hb => ?_, fun x k hx hk hq => Or.inr ?_⟩
  · simp at hx; rw [hx]; exact hs
  · by_cases he : x = s0
    · subst he
      rw [va_up_self]
      exact ⟨Nat.zero_le _, fun _ => ⟨0, rfl, rfl⟩⟩
    · rw [va_up_ne _ _ he]
      exact ⟨Nat.le_refl _, fun h => absurd h (Nat.lt_irrefl _)⟩
  · rw [hb.1, va_up_self]; exact Nat.zero_le _
  · have hx0 : x ≠ s0 := fun e => hq (by simp [e])
    rw [va_up_ne _ _ hx0]
    by_cases he : st k x = s0
    · rw [he, va_up_self]; exact Nat.zero_le _
    · rw [va_up_ne _ _ he]; exact Nat.le_add_right _ _
def wtO (N : Nat) (q : List Nat) (wa : Nat → Int32) : Prop := ∀ x0 q1, q = x0 :: q1 → wtR N q1 (upd wa x0 0)
theorem wtR.toO {N : Nat} {q : List Nat} {wa : Nat → Int32} (h : wtR N q wa) (hn : q.Nodup) : wtO N q wa := fun x0 q1 e => by
  subst e
  exact h.pop (List.nodup_cons.mp hn).1
theorem wt_one {N s0 : Nat} {wa : Nat → Int32} (h : ∀ x, x < N → wa x = 0) : wtO N [s0] wa := fun x0 q1 e => by
  cases e
  intro x hx
  rw [if_neg (by simp)]
  by_cases he : x = s0
  · subst he; exact pk_us
  · rw [pk_un he]; exact h x hx
theorem spQ_in {q : List Nat} {t : Nat} (h : t ∈ q) : spQ q t = q := if_pos h
theorem spQ_out {q : List Nat} {t : Nat} (h : ¬ t ∈ q) : spQ q t = q ++ [t] := if_neg h
theorem rg_one {s0 : Nat} {b : Nat → Int32} : rgR 0 [s0] (upd b 0 (nI s0)) := by
  intro i x hi
  have h0 := (List.getElem?_eq_some_iff.mp hi).1
  simp at h0
  subst h0
  simp at hi
  subst hi
  exact pk_us
set_option maxHeartbeats 4000000 in
theorem f_spreadCosts {l : Launch} {D : va_G} {dT : Nat → ClassId} {H0 : Heap} {r : Nat → Nat} {nx : Nat} {g : j_H} {F : Nat → Nat} {V : Nat → Nat → Int32} {nk : Nat} (h60 : g 60 = some (rcell (.ref (r 61)) (r 62) nk)) {kd bs fg m : Nat} {ks : Nat → KY} (hK : fkK r dT g kd bs fg m nk ks) (hs : F 0 < 8 * m * m) : MC (gG l D dT H0) yX0_spreadCosts cX0_spreadCosts 7 none 6 0 0 [.ref (r 0)] r (fkS r dT g F V) nx (q_costs r dT g F V nx (8 * m * m) (spD (fun k x => strk kd bs m (ks k) x) nk (fun k => (ks k).2.1) (fun x n => x = F 0 ∧ n = 0) (8 * m * m) 999999)) := by
  obtain ⟨h61, hD, hkn, ka, h62, hks⟩ := id hK
  have hm := hD.pos
  have hm2 := hD.le
  have hmm := mm_le hm2
  have hst : ∀ k x, k < nk → x < 8 * m * m → (fun k x => strk kd bs m (ks k) x) k x < 8 * m * m := fun k x hk hx => strk_lt hD (hks k hk).2.2 hx
  have hBN : ∀ x n, (fun x n => x = F 0 ∧ n = 0) x n → x < 8 * m * m := fun x n hb => by rw [hb.1]; exact hs
  have hg0 : rgR 0 [F 0] (upd (V 7) 0 (nI (F 0))) := rg_one
  have hw0 : wtO (8 * m * m) [F 0] (fun j => if 0 ≤ j ∧ j < 8 * m * m then vp_nar .boolean 0 else V 12 j) := wt_one (fun x hx => if_pos ⟨Nat.zero_le _, hx⟩)
  have hc0 : cstR (8 * m * m) (va_up (fun _ => 999999) (F 0) 0) (upd (fun j => if 0 ≤ j ∧ j < 8 * m * m then 999999 else V 11 j) (F 0) 0) := by
    refine cstR.up (v := 0) (fun x hx => ?_)
    rw [if_pos ⟨Nat.zero_le _, hx⟩]
    rfl
  refine MC.ofJ [some (.ref (r 0)), none, none, none, none, none, none] rfl (Nat.le_of_ble_eq_true rfl) (by decide) ?_
  refine j_re rfl rfl (h' := fkS r dT g F (vo V [(7, V 7), (11, V 11), (12, V 12)])) (by rw [vo_same _ (by simp)]) ?_
  refine j_aload_n dX0_spreadCosts_0 rfl ?_
  refine j_get 13 dX0_spreadCosts_1 (by first | rfl | assumption) in_X0 rfl (by decide) q166 rfl ?_
  refine j_iconst (v := 0) dX0_spreadCosts_4 (by decide) ?_
  refine j_aload_n dX0_spreadCosts_5 rfl ?_
  refine j_get 0 dX0_spreadCosts_6 (by first | rfl | assumption) in_X0 rfl (by decide) q153 rfl ?_
  refine j_getN 0 dX0_spreadCosts_9 (by first | rfl | assumption) in_X1 rfl (by decide) (fun _ hs => hs.1 _ qn104) rfl ?_
  refine j_callVi (c_states 61 kd bs fg m (by exact h61) hm hm2) dX0_spreadCosts_12 pmX6_states q928 q929 q930 (by first | rfl | assumption) rfl rfl rfl ⟨Nat.le_of_ble_eq_true rfl, Nat.le_of_ble_eq_true rfl⟩ ⟨Nat.le_of_ble_eq_true rfl, Nat.le_of_ble_eq_true rfl⟩ rfl (Nat.le_of_ble_eq_true rfl) ?_
  refine j_ldc dX0_spreadCosts_15 q957 ?_
  refine j_callSv (c_fill 11 80000 0 (8 * m * m) 999999 (V 11) (by exact rfl) (by omega) hmm (by decide)) dX0_spreadCosts_17 pmJ6_fill q932 q933 rfl ⟨Nat.le_of_ble_eq_true rfl, Nat.le_of_ble_eq_true rfl⟩ ⟨Nat.le_of_ble_eq_true rfl, Nat.le_of_ble_eq_true rfl⟩ rfl (Nat.le_of_ble_eq_true rfl) ?_
  refine j_o1 ?_
  refine j_fkW (f := (fun j => if 0 ≤ j ∧ j < 8 * m * m then 999999 else V 11 j)) (by decide) rfl ?_
  refine j_aload_n dX0_spreadCosts_20 rfl ?_
  refine j_get 14 dX0_spreadCosts_21 (by first | rfl | assumption) in_X0 rfl (by decide) q167 rfl ?_
  refine j_iconst (v := 0) dX0_spreadCosts_24 (by decide) ?_
  refine j_aload_n dX0_spreadCosts_25 rfl ?_
  refine j_get 0 dX0_spreadCosts_26 (by first | rfl | assumption) in_X0 rfl (by decide) q153 rfl ?_
  refine j_getN 0 dX0_spreadCosts_29 (by first | rfl | assumption) in_X1 rfl (by decide) (fun _ hs => hs.1 _ qn104) rfl ?_
  refine j_callVi (c_states 61 kd bs fg m (by exact h61) hm hm2) dX0_spreadCosts_32 pmX6_states q928 q929 q930 (by first | rfl | assumption) rfl rfl rfl ⟨Nat.le_of_ble_eq_true rfl, Nat.le_of_ble_eq_true rfl⟩ ⟨Nat.le_of_ble_eq_true rfl, Nat.le_of_ble_eq_true rfl⟩ rfl (Nat.le_of_ble_eq_true rfl) ?_
  refine j_iconst (v := 0) dX0_spreadCosts_35 (by decide) ?_
  refine j_callSv (c_fill_3 12 80000 0 (8 * m * m) 0 (V 12) (by exact rfl) (by omega) hmm (by decide)) dX0_spreadCosts_36 pmJ6_fill_3 q958 q959 rfl ⟨Nat.le_of_ble_eq_true rfl, Nat.le_of_ble_eq_true rfl⟩ ⟨Nat.le_of_ble_eq_true rfl, Nat.le_of_ble_eq_true rfl⟩ rfl (Nat.le_of_ble_eq_true rfl) ?_
  refine j_o1 ?_
  refine j_fkW (f := (fun j => if 0 ≤ j ∧ j < 8 * m * m then vp_nar .boolean 0 else V 12 j)) (by decide) rfl ?_
  refine j_aload_n dX0_spreadCosts_39 rfl ?_
  refine j_get 13 dX0_spreadCosts_40 (by first | rfl | assumption) in_X0 rfl (by decide) q166 rfl ?_
  refine j_aload_n dX0_spreadCosts_43 rfl ?_
  refine j_get 1 dX0_spreadCosts_44 (by first | rfl | assumption) in_X0 rfl (by decide) q154 rfl ?_
  refine j_getN 0 dX0_spreadCosts_47 (by first | rfl | assumption) in_X2 rfl (by decide) (fun _ hs => hs.1 _ qn125) rfl ?_
  refine j_iconst (v := 0) dX0_spreadCosts_50 (by decide) ?_
  refine j_iast 0 (F 0) dX0_spreadCosts_51 (by first | rfl | assumption) rfl rfl (by show F 0 < 80000; omega) (by decide) ?_
  refine j_fkW (f := _) (by decide) rfl ?_
  refine j_aload_n dX0_spreadCosts_52 rfl ?_
  refine j_get 9 dX0_spreadCosts_53 (by first | rfl | assumption) in_X0 rfl (by decide) q162 rfl ?_
  refine j_iconst (v := 0) dX0_spreadCosts_56 (by decide) ?_
  refine j_aload_n dX0_spreadCosts_57 rfl ?_
  refine j_get 1 dX0_spreadCosts_58 (by first | rfl | assumption) in_X0 rfl (by decide) q154 rfl ?_
  refine j_getN 0 dX0_spreadCosts_61 (by first | rfl | assumption) in_X2 rfl (by decide) (fun _ hs => hs.1 _ qn125) rfl ?_
  refine j_iast 0 0 dX0_spreadCosts_64 (by first | rfl | assumption) rfl rfl (by decide) (by decide) ?_
  refine j_fkW (f := _) (by decide) rfl ?_
  refine j_iconst (v := 0) dX0_spreadCosts_65 (by decide) ?_
  refine j_istore_n dX0_spreadCosts_66 (by decide) rfl ?_
  refine j_iconst (v := 1) dX0_spreadCosts_67 (by decide) ?_
  refine j_istore_n dX0_spreadCosts_68 (by decide) rfl ?_
  refine j_less (L' := [some (.ref (r 0)), some (.int (nI 0)), some (.int (nI [F 0].length)), none, none, none, none]) ⟨Or.inr rfl, Or.inr rfl, Or.inr rfl, Or.inl rfl, Or.inl rfl, Or.inl rfl, Or.inl rfl, trivial⟩ ?_
  refine j_lp6 (fun (hd : Nat) (q : List Nat) (c : Nat → Nat) (rw' ca wa : Nat → Int32) => fkS r dT g F (vo V [(7, rw'), (11, ca), (12, wa)])) (fun hd q _ _ _ _ => [some (.ref (r 0)), some (.int (nI hd)), some (.int (nI q.length)), none, none, none, none]) (fun hd q c rw' ca wa => hd < 80000 ∧ spI (fun k x => strk kd bs m (ks k) x) nk (fun k => (ks k).2.1) (fun x n => x = F 0 ∧ n = 0) (8 * m * m) 999999 (fun _ _ => False) c q ∧ rgR hd q rw' ∧ wtO (8 * m * m) q wa ∧ cstR (8 * m * m) c ca) (fun _ q c _ _ _ => 2 * fb_sm c (8 * m * m) + q.length) ?_ 0 [F 0] (va_up (fun _ => 999999) (F 0) 0) _ _ _ ⟨by decide, sp_start hs (by decide) hst, hg0, hw0, hc0⟩
  intro hd q c rw' ca wa ⟨hhd, hI, hG, hW, hC⟩ ih
  have hql := nodup_le _ q hI.1 hI.2.1
  refine j_iload_n dX0_spreadCosts_69 rfl ?_
  refine j_if_le (tgt := 214) dX0_spreadCosts_70 (by decide) (fun c70 => ?_) (fun c70 => ?_)
  · skip
    have hqe : q = [] := by
      cases q with
      | nil => rfl
      | cons a l => exact absurd c70 (nI_nle (by simp) (by omega))
    subst hqe
    refine j_vret dX0_spreadCosts_214 rfl (Nat.le_refl _) (Nat.le_refl _) ?_
    exact ⟨rfl, rfl, rfl, rw', ca, wa, c, rfl, hC, hI.done hst (fun x n hb => hBN x n hb)⟩
  · skip
    obtain ⟨x0, q1, hqe⟩ : ∃ x0 q1, q = x0 :: q1 := by
      cases q with
      | nil => exact absurd (Int32.le_refl 0) c70
      | cons a l => exact ⟨a, l, rfl⟩
    subst hqe
    generalize q1 = q at *
    have hI0 := hI.pop
    have hx0 := hI0.2.2
    have hql2 : q.length + 1 ≤ 8 * m * m := hql
    obtain ⟨M0, hM0⟩ : ∃ M0, 2 * fb_sm c (8 * m * m) + q.length = M0 := ⟨_, rfl⟩
    have hx0r : rw' hd = nI x0 := by
      have := hG 0 x0 rfl
      rw [show (hd + 0) % 80000 = hd by omega] at this
      exact this
    refine j_aload_n dX0_spreadCosts_73 rfl ?_
    refine j_get 9 dX0_spreadCosts_74 (by first | rfl | assumption) in_X0 rfl (by decide) q162 rfl ?_
    refine j_iload_n dX0_spreadCosts_77 rfl ?_
    refine j_iald 0 hd dX0_spreadCosts_78 (by first | rfl | assumption) rfl rfl hhd (by decide) ?_
    refine j_eqi (show _ = nI x0 from hx0r) ?_
    refine j_istore_n dX0_spreadCosts_79 (by decide) rfl ?_
    refine j_iload_n dX0_spreadCosts_80 rfl ?_
    refine j_iconst (v := 1) dX0_spreadCosts_81 (by decide) ?_
    refine j_iadd dX0_spreadCosts_82 ?_
    refine j_ldc dX0_spreadCosts_83 q149 ?_
    refine j_irem dX0_spreadCosts_85 (by decide) ?_
    refine j_eqi (show _ = nI ((hd + 1) % 80000) by rw [nI_1]; exact nI_ring (by omega)) ?_
    refine j_istore_n dX0_spreadCosts_86 (by decide) rfl ?_
    refine j_iinc dX0_spreadCosts_87 rfl (by decide) rfl ?_
    refine j_aload_n dX0_spreadCosts_90 rfl ?_
    refine j_get 14 dX0_spreadCosts_91 (by first | rfl | assumption) in_X0 rfl (by decide) q167 rfl ?_
    refine j_iload_n dX0_spreadCosts_94 rfl ?_
    refine j_iconst (v := 0) dX0_spreadCosts_95 (by decide) ?_
    refine j_zast 2 x0 dX0_spreadCosts_96 (by first | rfl | assumption) rfl rfl (by show x0 < 80000; omega) (by decide) ?_
    refine j_fkW (f := upd wa x0 0) (by decide) rfl ?_
    refine j_iconst (v := 0) dX0_spreadCosts_97 (by decide) ?_
    refine j_istore dX0_spreadCosts_98 (by decide) rfl ?_
    refine j_less (L' := [some (.ref (r 0)), some (.int (nI ((hd + 1) % 80000))), some (.int (nI q.length)), some (.int (nI x0)), some (.int (nI 0)), none, none]) ⟨Or.inr rfl, Or.inr rfl, Or.inr (by rw [List.length_cons, nI_dec]), Or.inr rfl, Or.inr rfl, Or.inl rfl, Or.inl rfl, trivial⟩ ?_
    refine j_lp6 (fun (j : Nat) (q : List Nat) (c : Nat → Nat) (rw' ca wa : Nat → Int32) => fkS r dT g F (vo V [(7, rw'), (11, ca), (12, wa)])) (fun j q _ _ _ _ => [some (.ref (r 0)), some (.int (nI ((hd + 1) % 80000))), some (.int (nI q.length)), some (.int (nI x0)), some (.int (nI j)), none, none]) (fun j q c rw' ca wa => j ≤ nk ∧ spI (fun k x => strk kd bs m (ks k) x) nk (fun k => (ks k).2.1) (fun x n => x = F 0 ∧ n = 0) (8 * m * m) 999999 (spE x0 j) c q ∧ x0 ∉ q ∧ rgR ((hd + 1) % 80000) q rw' ∧ wtR (8 * m * m) q wa ∧ cstR (8 * m * m) c ca ∧ 2 * fb_sm c (8 * m * m) + q.length ≤ M0) (fun j _ _ _ _ _ => nk - j) ?_ 0 q c rw' ca (upd wa x0 0) ⟨Nat.zero_le _, hI0.1, hI0.2.1, hG.pop, hW _ _ rfl, hC, Nat.le_of_eq hM0⟩
    clear hI hG hW hC hI0 hql
    intro j q c rw' ca wa ⟨hj, hI, hq0, hG, hW, hC, hM⟩ ih2
    have hql := hI.len hx0 hq0
    have hcx := (hI.2.2.1 x0 hx0).1
    refine j_iload dX0_spreadCosts_100 rfl ?_
    refine j_aload_n dX0_spreadCosts_102 rfl ?_
    refine j_get 0 dX0_spreadCosts_103 (by first | rfl | assumption) in_X0 rfl (by decide) q153 rfl ?_
    refine j_getN 2 dX0_spreadCosts_106 (by first | rfl | assumption) in_X1 rfl (by decide) (fun _ hs => hs.1 _ qn109) rfl ?_
    refine j_icmp_ge (tgt := 211) dX0_spreadCosts_109 (by decide) (fun c109 => ?_) (fun c109 => ?_)
    · skip
      have hjk : j = nk := by
        have := (nI_leI (by omega) (by omega)).mp c109
        omega
      refine j_goto (tgt := 69) dX0_spreadCosts_211 (by decide) ?_
      refine j_less (L' := [some (.ref (r 0)), some (.int (nI ((hd + 1) % 80000))), some (.int (nI q.length)), none, none, none, none]) ⟨Or.inr rfl, Or.inr rfl, Or.inr rfl, Or.inl rfl, Or.inl rfl, Or.inl rfl, Or.inl rfl, trivial⟩ ?_
      subst hjk
      exact ih ((hd + 1) % 80000) q c rw' ca wa ⟨Nat.mod_lt _ (by decide), hI.fin, hG, hW.toO hI.1, hC⟩ (by rw [List.length_cons]; omega)
    · skip
      have hjk : j < nk := Nat.lt_of_not_le (fun q => c109 (nI_le q (by omega)))
      have hjn : j < nk := hjk
      have hT : (strk kd bs m (ks j) x0) < 8 * m * m := hst j x0 hjk hx0
      have hct := (hI.2.2.1 _ hT).1
      have hw9 := (hks j hjn).2.2.2.1
      refine j_aload_n dX0_spreadCosts_112 rfl ?_
      refine j_get 0 dX0_spreadCosts_113 (by first | rfl | assumption) in_X0 rfl (by decide) q153 rfl ?_
      refine j_getN 1 dX0_spreadCosts_116 (by first | rfl | assumption) in_X1 rfl (by decide) (fun _ hs => hs.1 _ qn107) rfl ?_
      refine j_iload dX0_spreadCosts_119 rfl ?_
      refine j_aald (w := .ref (r (j + 63))) 4 j dX0_spreadCosts_121 (by first | rfl | assumption) rfl rfl rfl (by omega) (by decide) (by rw [(hks _ hjn).1]; rfl) ?_
      refine j_iload_n dX0_spreadCosts_122 rfl ?_
      refine j_strike (i := 61) (q := ks j) dX0_spreadCosts_123 (by exact (hks j hjn).2.1) (by exact h61) hD (hks j hjn).2.2 hx0 ⟨Nat.le_of_ble_eq_true rfl, Nat.le_of_ble_eq_true rfl, Nat.le_of_ble_eq_true rfl, Nat.le_of_ble_eq_true rfl⟩ (Nat.le_of_ble_eq_true rfl) ?_
      refine j_istore dX0_spreadCosts_126 (by decide) rfl ?_
      refine j_aload_n dX0_spreadCosts_128 rfl ?_
      refine j_get 13 dX0_spreadCosts_129 (by first | rfl | assumption) in_X0 rfl (by decide) q166 rfl ?_
      refine j_iload_n dX0_spreadCosts_132 rfl ?_
      refine j_iald 0 x0 dX0_spreadCosts_133 (by first | rfl | assumption) rfl rfl (by show x0 < 80000; omega) (by decide) ?_
      refine j_eqi (show _ = nI (c x0) from hC x0 hx0) ?_
      refine j_aload_n dX0_spreadCosts_134 rfl ?_
      refine j_get 0 dX0_spreadCosts_135 (by first | rfl | assumption) in_X0 rfl (by decide) q153 rfl ?_
      refine j_getN 1 dX0_spreadCosts_138 (by first | rfl | assumption) in_X1 rfl (by decide) (fun _ hs => hs.1 _ qn107) rfl ?_
      refine j_iload dX0_spreadCosts_141 rfl ?_
      refine j_aald (w := .ref (r (j + 63))) 4 j dX0_spreadCosts_143 (by first | rfl | assumption) rfl rfl rfl (by omega) (by decide) (by rw [(hks _ hjn).1]; rfl) ?_
      refine j_kcost (q := ks j) dX0_spreadCosts_144 (by exact (hks j hjn).2.1) ?_
      refine j_iadd dX0_spreadCosts_147 ?_
      refine j_eqi (show _ = nI (c x0 + (ks j).2.1) from nI_add _ _) ?_
      refine j_istore dX0_spreadCosts_148 (by decide) rfl ?_
      refine j_iload dX0_spreadCosts_150 rfl ?_
      refine j_aload_n dX0_spreadCosts_152 rfl ?_
      refine j_get 13 dX0_spreadCosts_153 (by first | rfl | assumption) in_X0 rfl (by decide) q166 rfl ?_
      refine j_iload dX0_spreadCosts_156 rfl ?_
      refine j_iald 0 (strk kd bs m (ks j) x0) dX0_spreadCosts_158 (by first | rfl | assumption) rfl rfl (by show (strk kd bs m (ks j) x0) < 80000; omega) (by decide) ?_
      refine j_eqi (show _ = nI (c (strk kd bs m (ks j) x0)) from hC _ hT) ?_
      refine j_icmp_ge (tgt := 205) dX0_spreadCosts_159 (by decide) (fun c159 => ?_) (fun c159 => ?_)
      · skip
        have hle : c (strk kd bs m (ks j) x0) ≤ c x0 + (ks j).2.1 := (nI_leI (by omega) (by omega)).mp c159
        refine j_iinc dX0_spreadCosts_205 rfl (by decide) rfl ?_
        refine j_goto (tgt := 100) dX0_spreadCosts_208 (by decide) ?_
        refine j_less (L' := [some (.ref (r 0)), some (.int (nI ((hd + 1) % 80000))), some (.int (nI q.length)), some (.int (nI x0)), some (.int (nI (j + 1))), none, none]) ⟨Or.inr rfl, Or.inr rfl, Or.inr rfl, Or.inr rfl, Or.inr (by rw [← nI_inc]), Or.inl rfl, Or.inl rfl, trivial⟩ ?_
        exact ih2 (j + 1) q c rw' ca wa ⟨by omega, hI.skip hle, hq0, hG, hW, hC, hM⟩ (by omega)
      · skip
        have hlt : c x0 + (ks j).2.1 < c (strk kd bs m (ks j) x0) := Nat.lt_of_not_le (fun q => c159 (nI_le q (by omega)))
        refine j_aload_n dX0_spreadCosts_162 rfl ?_
        refine j_get 13 dX0_spreadCosts_163 (by first | rfl | assumption) in_X0 rfl (by decide) q166 rfl ?_
        refine j_iload dX0_spreadCosts_166 rfl ?_
        refine j_iload dX0_spreadCosts_168 rfl ?_
        refine j_iast 0 (strk kd bs m (ks j) x0) dX0_spreadCosts_170 (by first | rfl | assumption) rfl rfl (by show (strk kd bs m (ks j) x0) < 80000; omega) (by decide) ?_
        refine j_fkW (f := upd ca (strk kd bs m (ks j) x0) (nI (c x0 + (ks j).2.1))) (by decide) rfl ?_
        refine j_aload_n dX0_spreadCosts_171 rfl ?_
        refine j_get 14 dX0_spreadCosts_172 (by first | rfl | assumption) in_X0 rfl (by decide) q167 rfl ?_
        refine j_iload dX0_spreadCosts_175 rfl ?_
        refine j_zald 2 (strk kd bs m (ks j) x0) dX0_spreadCosts_177 (by first | rfl | assumption) rfl rfl (by show (strk kd bs m (ks j) x0) < 80000; omega) (by decide) ?_
        refine j_eqi (show _ = (if (strk kd bs m (ks j) x0) ∈ q then (1 : Int32) else 0) from hW _ hT) ?_
        refine j_if_ne (tgt := 205) dX0_spreadCosts_178 (by decide) (fun c178 => ?_) (fun c178 => ?_)
        · skip
          have hin : (strk kd bs m (ks j) x0) ∈ q := Classical.byContradiction (fun h => c178 (if_neg h))
          refine j_iinc dX0_spreadCosts_205 rfl (by decide) rfl ?_
          refine j_goto (tgt := 100) dX0_spreadCosts_208 (by decide) ?_
          refine j_less (L' := [some (.ref (r 0)), some (.int (nI ((hd + 1) % 80000))), some (.int (nI q.length)), some (.int (nI x0)), some (.int (nI (j + 1))), none, none]) ⟨Or.inr rfl, Or.inr rfl, Or.inr rfl, Or.inr rfl, Or.inr (by rw [← nI_inc]), Or.inl rfl, Or.inl rfl, trivial⟩ ?_
          have hI9 := hI.take hst hjk hx0 hq0 hlt
          have hs9 := sp_less (c := c) hT hlt
          rw [show spQ q _ = q from spQ_in hin] at hI9
          exact ih2 (j + 1) q _ rw' _ wa ⟨by omega, hI9.1, hI9.2.1, hG, hW, hC.up, by omega⟩ (by omega)
        · skip
          have hin : ¬ (strk kd bs m (ks j) x0) ∈ q := fun h => by rw [if_pos h] at c178; exact absurd c178 (by decide)
          refine j_aload_n dX0_spreadCosts_181 rfl ?_
          refine j_get 14 dX0_spreadCosts_182 (by first | rfl | assumption) in_X0 rfl (by decide) q167 rfl ?_
          refine j_iload dX0_spreadCosts_185 rfl ?_
          refine j_iconst (v := 1) dX0_spreadCosts_187 (by decide) ?_
          refine j_zast 2 (strk kd bs m (ks j) x0) dX0_spreadCosts_188 (by first | rfl | assumption) rfl rfl (by show (strk kd bs m (ks j) x0) < 80000; omega) (by decide) ?_
          refine j_fkW (f := upd wa (strk kd bs m (ks j) x0) 1) (by decide) rfl ?_
          refine j_aload_n dX0_spreadCosts_189 rfl ?_
          refine j_get 9 dX0_spreadCosts_190 (by first | rfl | assumption) in_X0 rfl (by decide) q162 rfl ?_
          refine j_iload_n dX0_spreadCosts_193 rfl ?_
          refine j_iload_n dX0_spreadCosts_194 rfl ?_
          refine j_iadd dX0_spreadCosts_195 ?_
          refine j_ldc dX0_spreadCosts_196 q149 ?_
          refine j_irem dX0_spreadCosts_198 (by decide) ?_
          refine j_eqi (show _ = nI (((hd + 1) % 80000 + q.length) % 80000) by rw [nI_add]; exact nI_ring (by omega)) ?_
          refine j_iload dX0_spreadCosts_199 rfl ?_
          refine j_iast 0 (((hd + 1) % 80000 + q.length) % 80000) dX0_spreadCosts_201 (by first | rfl | assumption) rfl rfl (Nat.mod_lt _ (by decide)) (by decide) ?_
          refine j_fkW (f := _) (by decide) rfl ?_
          refine j_iinc dX0_spreadCosts_202 rfl (by decide) rfl ?_
          refine j_iinc dX0_spreadCosts_205 rfl (by decide) rfl ?_
          refine j_goto (tgt := 100) dX0_spreadCosts_208 (by decide) ?_
          refine j_less (L' := [some (.ref (r 0)), some (.int (nI ((hd + 1) % 80000))), some (.int (nI (q ++ [(strk kd bs m (ks j) x0)]).length)), some (.int (nI x0)), some (.int (nI (j + 1))), none, none]) ⟨Or.inr rfl, Or.inr rfl, Or.inr (by rw [List.length_append, List.length_singleton, ← nI_inc]), Or.inr rfl, Or.inr (by rw [← nI_inc]), Or.inl rfl, Or.inl rfl, trivial⟩ ?_
          have hI9 := hI.take hst hjk hx0 hq0 hlt
          have hs9 := sp_less (c := c) hT hlt
          rw [show spQ q _ = q ++ [(strk kd bs m (ks j) x0)] from spQ_out hin] at hI9
          exact ih2 (j + 1) _ _ _ _ _ ⟨by omega, hI9.1, hI9.2.1, hG.push (by omega), hW.push, hC.up, by rw [List.length_append, List.length_singleton]; omega⟩ (by omega)
theorem sp_go {st : Nat → Nat → Nat} {K : Nat} {w : Nat → Nat} {N FR : Nat} {c0 : Nat → Nat} {q : List Nat} (h1 : q.Nodup) (h2 : ∀ y, y ∈ q → y < N) (h3 : ∀ y, y < N → (y ∈ q ↔ c0 y < FR)) (hF : ∀ x, x < N → c0 x ≤ FR) (hst : ∀ k x, k < K → x < N → st k x < N) : spI st K w (fun x n => x < N ∧ c0 x = n ∧ n < FR) N FR (fun _ _ => False) c0 q := by
  refine ⟨h1, h2, fun x hx => ⟨hF x hx, fun hl => ⟨0, hx, rfl, hl⟩⟩, fun x n hb => Nat.le_of_eq hb.2.1, fun x k hx hk hq => Or.inr ?_⟩
  have h4 : ¬ c0 x < FR := fun h => hq ((h3 x hx).mpr h)
  have h5 := hF _ (hst k x hk hx)
  omega
set_option maxHeartbeats 4000000 in
theorem f_goOn {l : Launch} {D : va_G} {dT : Nat → ClassId} {H0 : Heap} {r : Nat → Nat} {nx : Nat} {g : j_H} {F : Nat → Nat} {V : Nat → Nat → Int32} {nk : Nat} (h60 : g 60 = some (rcell (.ref (r 61)) (r 62) nk)) {kd bs fg m : Nat} {ks : Nat → KY} (hK : fkK r dT g kd bs fg m nk ks) (c0 : Nat → Nat) (hc0 : cstR (8 * m * m) c0 (V 11)) (hcF : ∀ x, x < 8 * m * m → c0 x ≤ 999999) : MC (gG l D dT H0) yX0_goOn cX0_goOn 6 none 6 0 0 [.ref (r 0)] r (fkS r dT g F V) nx (q_costs r dT g F V nx (8 * m * m) (spD (fun k x => strk kd bs m (ks k) x) nk (fun _ => 1) (fun x n => x < 8 * m * m ∧ c0 x = n ∧ n < 999999) (8 * m * m) 999999)) := by
  obtain ⟨h61, hD, hkn, ka, h62, hks⟩ := id hK
  have hm := hD.pos
  have hm2 := hD.le
  have hmm := mm_le hm2
  have hst : ∀ k x, k < nk → x < 8 * m * m → (fun k x => strk kd bs m (ks k) x) k x < 8 * m * m := fun k x hk hx => strk_lt hD (hks k hk).2.2 hx
  have hBN : ∀ x n, (fun x n => x < 8 * m * m ∧ c0 x = n ∧ n < 999999) x n → x < 8 * m * m := fun x n hb => hb.1
  refine MC.ofJ [some (.ref (r 0)), none, none, none, none, none] rfl (Nat.le_of_ble_eq_true rfl) (by decide) ?_
  refine j_re rfl rfl (h' := fkS r dT g F (vo V [(7, V 7), (11, V 11), (12, V 12)])) (by rw [vo_same _ (by simp)]) ?_
  refine j_iconst (v := 0) dX0_goOn_0 (by decide) ?_
  refine j_istore_n dX0_goOn_1 (by decide) rfl ?_
  refine j_iconst (v := 0) dX0_goOn_2 (by decide) ?_
  refine j_istore_n dX0_goOn_3 (by decide) rfl ?_
  refine j_aload_n dX0_goOn_4 rfl ?_
  refine j_get 14 dX0_goOn_5 (by first | rfl | assumption) in_X0 rfl (by decide) q167 rfl ?_
  refine j_iconst (v := 0) dX0_goOn_8 (by decide) ?_
  refine j_aload_n dX0_goOn_9 rfl ?_
  refine j_get 0 dX0_goOn_10 (by first | rfl | assumption) in_X0 rfl (by decide) q153 rfl ?_
  refine j_getN 0 dX0_goOn_13 (by first | rfl | assumption) in_X1 rfl (by decide) (fun _ hs => hs.1 _ qn104) rfl ?_
  refine j_callVi (c_states 61 kd bs fg m (by exact h61) hm hm2) dX0_goOn_16 pmX6_states q928 q929 q930 (by first | rfl | assumption) rfl rfl rfl ⟨Nat.le_of_ble_eq_true rfl, Nat.le_of_ble_eq_true rfl⟩ ⟨Nat.le_of_ble_eq_true rfl, Nat.le_of_ble_eq_true rfl⟩ rfl (Nat.le_of_ble_eq_true rfl) ?_
  refine j_iconst (v := 0) dX0_goOn_19 (by decide) ?_
  refine j_callSv (c_fill_3 12 80000 0 (8 * m * m) 0 (V 12) (by exact rfl) (by omega) hmm (by decide)) dX0_goOn_20 pmJ6_fill_3 q958 q959 rfl ⟨Nat.le_of_ble_eq_true rfl, Nat.le_of_ble_eq_true rfl⟩ ⟨Nat.le_of_ble_eq_true rfl, Nat.le_of_ble_eq_true rfl⟩ rfl (Nat.le_of_ble_eq_true rfl) ?_
  refine j_o1 ?_
  refine j_fkW (f := (fun j => if 0 ≤ j ∧ j < 8 * m * m then vp_nar .boolean 0 else V 12 j)) (by decide) rfl ?_
  refine j_iconst (v := 0) dX0_goOn_23 (by decide) ?_
  refine j_istore_n dX0_goOn_24 (by decide) rfl ?_
  refine j_less (L' := [some (.ref (r 0)), some (.int (nI 0)), some (.int (nI ([] : List Nat).length)), some (.int (nI 0)), none, none]) ⟨Or.inr rfl, Or.inr rfl, Or.inr rfl, Or.inr rfl, Or.inl rfl, Or.inl rfl, trivial⟩ ?_
  refine j_lp4 (fun (x : Nat) (q : List Nat) (rw' wa : Nat → Int32) => fkS r dT g F (vo V [(7, rw'), (11, V 11), (12, wa)])) (fun x q _ _ => [some (.ref (r 0)), some (.int (nI 0)), some (.int (nI q.length)), some (.int (nI x)), none, none]) (fun x q rw' wa => x ≤ 8 * m * m ∧ q.Nodup ∧ (∀ y, y ∈ q → y < x) ∧ (∀ y, y < x → (y ∈ q ↔ c0 y < 999999)) ∧ rgR 0 q rw' ∧ wtR (8 * m * m) q wa) (fun x _ _ _ => 8 * m * m - x) ?_ 0 [] _ _ ⟨Nat.zero_le _, List.nodup_nil, (by simp), (fun y hy => absurd hy (Nat.not_lt_zero _)), (by intro i x hi; simp at hi), (fun x hx => (if_pos ⟨Nat.zero_le _, hx⟩).trans (if_neg (by simp)).symm)⟩
  intro x q rw' wa ⟨hx, hq1, hq2, hq3, hG, hW⟩ ih
  have hql := nodup_le _ q hq1 hq2
  refine j_iload_n dX0_goOn_25 rfl ?_
  refine j_aload_n dX0_goOn_26 rfl ?_
  refine j_get 0 dX0_goOn_27 (by first | rfl | assumption) in_X0 rfl (by decide) q153 rfl ?_
  refine j_getN 0 dX0_goOn_30 (by first | rfl | assumption) in_X1 rfl (by decide) (fun _ hs => hs.1 _ qn104) rfl ?_
  refine j_callVi (c_states 61 kd bs fg m (by exact h61) hm hm2) dX0_goOn_33 pmX6_states q928 q929 q930 (by first | rfl | assumption) rfl rfl rfl ⟨Nat.le_of_ble_eq_true rfl, Nat.le_of_ble_eq_true rfl⟩ ⟨Nat.le_of_ble_eq_true rfl, Nat.le_of_ble_eq_true rfl⟩ rfl (Nat.le_of_ble_eq_true rfl) ?_
  refine j_icmp_ge (tgt := 73) dX0_goOn_36 (by decide) (fun c36 => ?_) (fun c36 => ?_)
  · skip
    have hxe : x = 8 * m * m := by
      have := (nI_leI (by omega) (by omega)).mp c36
      omega
    have hI8 : spI (fun k x => strk kd bs m (ks k) x) nk (fun _ => 1) (fun x n => x < 8 * m * m ∧ c0 x = n ∧ n < 999999) (8 * m * m) 999999 (fun _ _ => False) c0 q := sp_go hq1 (fun y hy => by have := hq2 y hy; omega) (fun y hy => hq3 y (by omega)) hcF hst
    clear ih
    refine j_less (L' := [some (.ref (r 0)), some (.int (nI 0)), some (.int (nI q.length)), none, none, none]) ⟨Or.inr rfl, Or.inr rfl, Or.inr rfl, Or.inl rfl, Or.inl rfl, Or.inl rfl, trivial⟩ ?_
    refine j_lp6 (fun (hd : Nat) (q : List Nat) (c : Nat → Nat) (rw' ca wa : Nat → Int32) => fkS r dT g F (vo V [(7, rw'), (11, ca), (12, wa)])) (fun hd q _ _ _ _ => [some (.ref (r 0)), some (.int (nI hd)), some (.int (nI q.length)), none, none, none]) (fun hd q c rw' ca wa => hd < 80000 ∧ spI (fun k x => strk kd bs m (ks k) x) nk (fun _ => 1) (fun x n => x < 8 * m * m ∧ c0 x = n ∧ n < 999999) (8 * m * m) 999999 (fun _ _ => False) c q ∧ rgR hd q rw' ∧ wtO (8 * m * m) q wa ∧ cstR (8 * m * m) c ca) (fun _ q c _ _ _ => 2 * fb_sm c (8 * m * m) + q.length) ?_ 0 q c0 rw' (V 11) wa ⟨by decide, hI8, hG, hW.toO hq1, hc0⟩
    intro hd q c rw' ca wa ⟨hhd, hI, hG, hW, hC⟩ ih
    have hql := nodup_le _ q hI.1 hI.2.1
    refine j_iload_n dX0_goOn_73 rfl ?_
    refine j_if_le (tgt := 208) dX0_goOn_74 (by decide) (fun c74 => ?_) (fun c74 => ?_)
    · skip
      have hqe : q = [] := by
        cases q with
        | nil => rfl
        | cons a l => exact absurd c74 (nI_nle (by simp) (by omega))
      subst hqe
      refine j_vret dX0_goOn_208 rfl (Nat.le_refl _) (Nat.le_refl _) ?_
      exact ⟨rfl, rfl, rfl, rw', ca, wa, c, rfl, hC, hI.done hst (fun x n hb => hBN x n hb)⟩
    · skip
      obtain ⟨x0, q1, hqe⟩ : ∃ x0 q1, q = x0 :: q1 := by
        cases q with
        | nil => exact absurd (Int32.le_refl 0) c74
        | cons a l => exact ⟨a, l, rfl⟩
      subst hqe
      generalize q1 = q at *
      have hI0 := hI.pop
      have hx0 := hI0.2.2
      have hql2 : q.length + 1 ≤ 8 * m * m := hql
      obtain ⟨M0, hM0⟩ : ∃ M0, 2 * fb_sm c (8 * m * m) + q.length = M0 := ⟨_, rfl⟩
      have hx0r : rw' hd = nI x0 := by
        have := hG 0 x0 rfl
        rw [show (hd + 0) % 80000 = hd by omega] at this
        exact this
      refine j_aload_n dX0_goOn_77 rfl ?_
      refine j_get 9 dX0_goOn_78 (by first | rfl | assumption) in_X0 rfl (by decide) q162 rfl ?_
      refine j_iload_n dX0_goOn_81 rfl ?_
      refine j_iald 0 hd dX0_goOn_82 (by first | rfl | assumption) rfl rfl hhd (by decide) ?_
      refine j_eqi (show _ = nI x0 from hx0r) ?_
      refine j_istore_n dX0_goOn_83 (by decide) rfl ?_
      refine j_iload_n dX0_goOn_84 rfl ?_
      refine j_iconst (v := 1) dX0_goOn_85 (by decide) ?_
      refine j_iadd dX0_goOn_86 ?_
      refine j_ldc dX0_goOn_87 q149 ?_
      refine j_irem dX0_goOn_89 (by decide) ?_
      refine j_eqi (show _ = nI ((hd + 1) % 80000) by rw [nI_1]; exact nI_ring (by omega)) ?_
      refine j_istore_n dX0_goOn_90 (by decide) rfl ?_
      refine j_iinc dX0_goOn_91 rfl (by decide) rfl ?_
      refine j_aload_n dX0_goOn_94 rfl ?_
      refine j_get 14 dX0_goOn_95 (by first | rfl | assumption) in_X0 rfl (by decide) q167 rfl ?_
      refine j_iload_n dX0_goOn_98 rfl ?_
      refine j_iconst (v := 0) dX0_goOn_99 (by decide) ?_
      refine j_zast 2 x0 dX0_goOn_100 (by first | rfl | assumption) rfl rfl (by show x0 < 80000; omega) (by decide) ?_
      refine j_fkW (f := upd wa x0 0) (by decide) rfl ?_
      refine j_iconst (v := 0) dX0_goOn_101 (by decide) ?_
      refine j_istore dX0_goOn_102 (by decide) rfl ?_
      refine j_less (L' := [some (.ref (r 0)), some (.int (nI ((hd + 1) % 80000))), some (.int (nI q.length)), some (.int (nI x0)), some (.int (nI 0)), none]) ⟨Or.inr rfl, Or.inr rfl, Or.inr (by rw [List.length_cons, nI_dec]), Or.inr rfl, Or.inr rfl, Or.inl rfl, trivial⟩ ?_
      refine j_lp6 (fun (j : Nat) (q : List Nat) (c : Nat → Nat) (rw' ca wa : Nat → Int32) => fkS r dT g F (vo V [(7, rw'), (11, ca), (12, wa)])) (fun j q _ _ _ _ => [some (.ref (r 0)), some (.int (nI ((hd + 1) % 80000))), some (.int (nI q.length)), some (.int (nI x0)), some (.int (nI j)), none]) (fun j q c rw' ca wa => j ≤ nk ∧ spI (fun k x => strk kd bs m (ks k) x) nk (fun _ => 1) (fun x n => x < 8 * m * m ∧ c0 x = n ∧ n < 999999) (8 * m * m) 999999 (spE x0 j) c q ∧ x0 ∉ q ∧ rgR ((hd + 1) % 80000) q rw' ∧ wtR (8 * m * m) q wa ∧ cstR (8 * m * m) c ca ∧ 2 * fb_sm c (8 * m * m) + q.length ≤ M0) (fun j _ _ _ _ _ => nk - j) ?_ 0 q c rw' ca (upd wa x0 0) ⟨Nat.zero_le _, hI0.1, hI0.2.1, hG.pop, hW _ _ rfl, hC, Nat.le_of_eq hM0⟩
      clear hI hG hW hC hI0 hql
      intro j q c rw' ca wa ⟨hj, hI, hq0, hG, hW, hC, hM⟩ ih2
      have hql := hI.len hx0 hq0
      have hcx := (hI.2.2.1 x0 hx0).1
      refine j_iload dX0_goOn_104 rfl ?_
      refine j_aload_n dX0_goOn_106 rfl ?_
      refine j_get 0 dX0_goOn_107 (by first | rfl | assumption) in_X0 rfl (by decide) q153 rfl ?_
      refine j_getN 2 dX0_goOn_110 (by first | rfl | assumption) in_X1 rfl (by decide) (fun _ hs => hs.1 _ qn109) rfl ?_
      refine j_icmp_ge (tgt := 205) dX0_goOn_113 (by decide) (fun c113 => ?_) (fun c113 => ?_)
      · skip
        have hjk : j = nk := by
          have := (nI_leI (by omega) (by omega)).mp c113
          omega
        refine j_goto (tgt := 73) dX0_goOn_205 (by decide) ?_
        refine j_less (L' := [some (.ref (r 0)), some (.int (nI ((hd + 1) % 80000))), some (.int (nI q.length)), none, none, none]) ⟨Or.inr rfl, Or.inr rfl, Or.inr rfl, Or.inl rfl, Or.inl rfl, Or.inl rfl, trivial⟩ ?_
        subst hjk
        exact ih ((hd + 1) % 80000) q c rw' ca wa ⟨Nat.mod_lt _ (by decide), hI.fin, hG, hW.toO hI.1, hC⟩ (by rw [List.length_cons]; omega)
      · skip
        have hjk : j < nk := Nat.lt_of_not_le (fun q => c113 (nI_le q (by omega)))
        have hjn : j < nk := hjk
        have hT : (strk kd bs m (ks j) x0) < 8 * m * m := hst j x0 hjk hx0
        have hct := (hI.2.2.1 _ hT).1
        have hw9 := (hks j hjn).2.2.2.1
        refine j_aload_n dX0_goOn_116 rfl ?_
        refine j_get 0 dX0_goOn_117 (by first | rfl | assumption) in_X0 rfl (by decide) q153 rfl ?_
        refine j_getN 1 dX0_goOn_120 (by first | rfl | assumption) in_X1 rfl (by decide) (fun _ hs => hs.1 _ qn107) rfl ?_
        refine j_iload dX0_goOn_123 rfl ?_
        refine j_aald (w := .ref (r (j + 63))) 4 j dX0_goOn_125 (by first | rfl | assumption) rfl rfl rfl (by omega) (by decide) (by rw [(hks _ hjn).1]; rfl) ?_
        refine j_iload_n dX0_goOn_126 rfl ?_
        refine j_strike (i := 61) (q := ks j) dX0_goOn_127 (by exact (hks j hjn).2.1) (by exact h61) hD (hks j hjn).2.2 hx0 ⟨Nat.le_of_ble_eq_true rfl, Nat.le_of_ble_eq_true rfl, Nat.le_of_ble_eq_true rfl, Nat.le_of_ble_eq_true rfl⟩ (Nat.le_of_ble_eq_true rfl) ?_
        refine j_istore dX0_goOn_130 (by decide) rfl ?_
        refine j_aload_n dX0_goOn_132 rfl ?_
        refine j_get 13 dX0_goOn_133 (by first | rfl | assumption) in_X0 rfl (by decide) q166 rfl ?_
        refine j_iload_n dX0_goOn_136 rfl ?_
        refine j_iald 0 x0 dX0_goOn_137 (by first | rfl | assumption) rfl rfl (by show x0 < 80000; omega) (by decide) ?_
        refine j_eqi (show _ = nI (c x0) from hC x0 hx0) ?_
        refine j_iconst (v := 1) dX0_goOn_138 (by decide) ?_
        refine j_iadd dX0_goOn_139 ?_
        refine j_eqi (show _ = nI (c x0 + 1) from nI_add _ _) ?_
        refine j_aload_n dX0_goOn_140 rfl ?_
        refine j_get 13 dX0_goOn_141 (by first | rfl | assumption) in_X0 rfl (by decide) q166 rfl ?_
        refine j_iload dX0_goOn_144 rfl ?_
        refine j_iald 0 (strk kd bs m (ks j) x0) dX0_goOn_146 (by first | rfl | assumption) rfl rfl (by show (strk kd bs m (ks j) x0) < 80000; omega) (by decide) ?_
        refine j_eqi (show _ = nI (c (strk kd bs m (ks j) x0)) from hC _ hT) ?_
        refine j_icmp_ge (tgt := 199) dX0_goOn_147 (by decide) (fun c147 => ?_) (fun c147 => ?_)
        · skip
          have hle : c (strk kd bs m (ks j) x0) ≤ c x0 + 1 := (nI_leI (by omega) (by omega)).mp c147
          refine j_iinc dX0_goOn_199 rfl (by decide) rfl ?_
          refine j_goto (tgt := 104) dX0_goOn_202 (by decide) ?_
          refine j_less (L' := [some (.ref (r 0)), some (.int (nI ((hd + 1) % 80000))), some (.int (nI q.length)), some (.int (nI x0)), some (.int (nI (j + 1))), none]) ⟨Or.inr rfl, Or.inr rfl, Or.inr rfl, Or.inr rfl, Or.inr (by rw [← nI_inc]), Or.inl rfl, trivial⟩ ?_
          exact ih2 (j + 1) q c rw' ca wa ⟨by omega, hI.skip hle, hq0, hG, hW, hC, hM⟩ (by omega)
        · skip
          have hlt : c x0 + 1 < c (strk kd bs m (ks j) x0) := Nat.lt_of_not_le (fun q => c147 (nI_le q (by omega)))
          refine j_aload_n dX0_goOn_150 rfl ?_
          refine j_get 13 dX0_goOn_151 (by first | rfl | assumption) in_X0 rfl (by decide) q166 rfl ?_
          refine j_iload dX0_goOn_154 rfl ?_
          refine j_aload_n dX0_goOn_156 rfl ?_
          refine j_get 13 dX0_goOn_157 (by first | rfl | assumption) in_X0 rfl (by decide) q166 rfl ?_
          refine j_iload_n dX0_goOn_160 rfl ?_
          refine j_iald 0 x0 dX0_goOn_161 (by first | rfl | assumption) rfl rfl (by show x0 < 80000; omega) (by decide) ?_
          refine j_eqi (show _ = nI (c x0) from hC x0 hx0) ?_
          refine j_iconst (v := 1) dX0_goOn_162 (by decide) ?_
          refine j_iadd dX0_goOn_163 ?_
          refine j_eqi (show _ = nI (c x0 + 1) from nI_add _ _) ?_
          refine j_iast 0 (strk kd bs m (ks j) x0) dX0_goOn_164 (by first | rfl | assumption) rfl rfl (by show (strk kd bs m (ks j) x0) < 80000; omega) (by decide) ?_
          refine j_fkW (f := upd ca (strk kd bs m (ks j) x0) (nI (c x0 + 1))) (by decide) rfl ?_
          refine j_aload_n dX0_goOn_165 rfl ?_
          refine j_get 14 dX0_goOn_166 (by first | rfl | assumption) in_X0 rfl (by decide) q167 rfl ?_
          refine j_iload dX0_goOn_169 rfl ?_
          refine j_zald 2 (strk kd bs m (ks j) x0) dX0_goOn_171 (by first | rfl | assumption) rfl rfl (by show (strk kd bs m (ks j) x0) < 80000; omega) (by decide) ?_
          refine j_eqi (show _ = (if (strk kd bs m (ks j) x0) ∈ q then (1 : Int32) else 0) from hW _ hT) ?_
          refine j_if_ne (tgt := 199) dX0_goOn_172 (by decide) (fun c172 => ?_) (fun c172 => ?_)
          · skip
            have hin : (strk kd bs m (ks j) x0) ∈ q := Classical.byContradiction (fun h => c172 (if_neg h))
            refine j_iinc dX0_goOn_199 rfl (by decide) rfl ?_
            refine j_goto (tgt := 104) dX0_goOn_202 (by decide) ?_
            refine j_less (L' := [some (.ref (r 0)), some (.int (nI ((hd + 1) % 80000))), some (.int (nI q.length)), some (.int (nI x0)), some (.int (nI (j + 1))), none]) ⟨Or.inr rfl, Or.inr rfl, Or.inr rfl, Or.inr rfl, Or.inr (by rw [← nI_inc]), Or.inl rfl, trivial⟩ ?_
            have hI9 := hI.take hst hjk hx0 hq0 hlt
            have hs9 := sp_less (c := c) hT hlt
            rw [show spQ q _ = q from spQ_in hin] at hI9
            exact ih2 (j + 1) q _ rw' _ wa ⟨by omega, hI9.1, hI9.2.1, hG, hW, hC.up, by omega⟩ (by omega)
          · skip
            have hin : ¬ (strk kd bs m (ks j) x0) ∈ q := fun h => by rw [if_pos h] at c172; exact absurd c172 (by decide)
            refine j_aload_n dX0_goOn_175 rfl ?_
            refine j_get 14 dX0_goOn_176 (by first | rfl | assumption) in_X0 rfl (by decide) q167 rfl ?_
            refine j_iload dX0_goOn_179 rfl ?_
            refine j_iconst (v := 1) dX0_goOn_181 (by decide) ?_
            refine j_zast 2 (strk kd bs m (ks j) x0) dX0_goOn_182 (by first | rfl | assumption) rfl rfl (by show (strk kd bs m (ks j) x0) < 80000; omega) (by decide) ?_
            refine j_fkW (f := upd wa (strk kd bs m (ks j) x0) 1) (by decide) rfl ?_
            refine j_aload_n dX0_goOn_183 rfl ?_
            refine j_get 9 dX0_goOn_184 (by first | rfl | assumption) in_X0 rfl (by decide) q162 rfl ?_
            refine j_iload_n dX0_goOn_187 rfl ?_
            refine j_iload_n dX0_goOn_188 rfl ?_
            refine j_iadd dX0_goOn_189 ?_
            refine j_ldc dX0_goOn_190 q149 ?_
            refine j_irem dX0_goOn_192 (by decide) ?_
            refine j_eqi (show _ = nI (((hd + 1) % 80000 + q.length) % 80000) by rw [nI_add]; exact nI_ring (by omega)) ?_
            refine j_iload dX0_goOn_193 rfl ?_
            refine j_iast 0 (((hd + 1) % 80000 + q.length) % 80000) dX0_goOn_195 (by first | rfl | assumption) rfl rfl (Nat.mod_lt _ (by decide)) (by decide) ?_
            refine j_fkW (f := _) (by decide) rfl ?_
            refine j_iinc dX0_goOn_196 rfl (by decide) rfl ?_
            refine j_iinc dX0_goOn_199 rfl (by decide) rfl ?_
            refine j_goto (tgt := 104) dX0_goOn_202 (by decide) ?_
            refine j_less (L' := [some (.ref (r 0)), some (.int (nI ((hd + 1) % 80000))), some (.int (nI (q ++ [(strk kd bs m (ks j) x0)]).length)), some (.int (nI x0)), some (.int (nI (j + 1))), none]) ⟨Or.inr rfl, Or.inr rfl, Or.inr (by rw [List.length_append, List.length_singleton, ← nI_inc]), Or.inr rfl, Or.inr (by rw [← nI_inc]), Or.inl rfl, trivial⟩ ?_
            have hI9 := hI.take hst hjk hx0 hq0 hlt
            have hs9 := sp_less (c := c) hT hlt
            rw [show spQ q _ = q ++ [(strk kd bs m (ks j) x0)] from spQ_out hin] at hI9
            exact ih2 (j + 1) _ _ _ _ _ ⟨by omega, hI9.1, hI9.2.1, hG.push (by omega), hW.push, hC.up, by rw [List.length_append, List.length_singleton]; omega⟩ (by omega)
  · skip
    have hxl : x < 8 * m * m := Nat.lt_of_not_le (fun q => c36 (nI_le q (by omega)))
    have hcx := hcF x hxl
    refine j_aload_n dX0_goOn_39 rfl ?_
    refine j_get 13 dX0_goOn_40 (by first | rfl | assumption) in_X0 rfl (by decide) q166 rfl ?_
    refine j_iload_n dX0_goOn_43 rfl ?_
    refine j_iald 0 x dX0_goOn_44 (by first | rfl | assumption) rfl rfl (by show x < 80000; omega) (by decide) ?_
    refine j_eqi (show _ = nI (c0 x) from hc0 x hxl) ?_
    refine j_ldc dX0_goOn_45 q957 ?_
    refine j_icmp_ge (tgt := 67) dX0_goOn_47 (by decide) (fun c47 => ?_) (fun c47 => ?_)
    · skip
      have hcl : 999999 ≤ c0 x := (nI_leI (by decide) (by omega)).mp (show nI 999999 ≤ nI (c0 x) from c47)
      refine j_iinc dX0_goOn_67 rfl (by decide) rfl ?_
      refine j_goto (tgt := 25) dX0_goOn_70 (by decide) ?_
      refine j_less (L' := [some (.ref (r 0)), some (.int (nI 0)), some (.int (nI q.length)), some (.int (nI (x + 1))), none, none]) ⟨Or.inr rfl, Or.inr rfl, Or.inr rfl, Or.inr (by rw [← nI_inc]), Or.inl rfl, Or.inl rfl, trivial⟩ ?_
      refine ih (x + 1) q rw' wa ⟨by omega, hq1, (fun y hy => by have := hq2 y hy; omega), (fun y hy => ?_), hG, hW⟩ (by omega)
      by_cases hyx : y = x
      · subst hyx
        exact ⟨fun h => absurd (hq2 y h) (Nat.lt_irrefl _), fun h => absurd h (by omega)⟩
      · exact hq3 y (by omega)
    · skip
      have hcl : c0 x < 999999 := Nat.lt_of_not_le (fun q => c47 (show nI 999999 ≤ nI (c0 x) from nI_le q (by omega)))
      refine j_aload_n dX0_goOn_50 rfl ?_
      refine j_get 9 dX0_goOn_51 (by first | rfl | assumption) in_X0 rfl (by decide) q162 rfl ?_
      refine j_iload_n dX0_goOn_54 rfl ?_
      refine j_iload_n dX0_goOn_55 rfl ?_
      refine j_iast 0 q.length dX0_goOn_56 (by first | rfl | assumption) rfl rfl (by show q.length < 80000; omega) (by decide) ?_
      refine j_fkW (f := _) (by decide) rfl ?_
      refine j_aload_n dX0_goOn_57 rfl ?_
      refine j_get 14 dX0_goOn_58 (by first | rfl | assumption) in_X0 rfl (by decide) q167 rfl ?_
      refine j_iload_n dX0_goOn_61 rfl ?_
      refine j_iconst (v := 1) dX0_goOn_62 (by decide) ?_
      refine j_zast 2 x dX0_goOn_63 (by first | rfl | assumption) rfl rfl (by show x < 80000; omega) (by decide) ?_
      refine j_fkW (f := upd wa x 1) (by decide) rfl ?_
      refine j_iinc dX0_goOn_64 rfl (by decide) rfl ?_
      refine j_iinc dX0_goOn_67 rfl (by decide) rfl ?_
      refine j_goto (tgt := 25) dX0_goOn_70 (by decide) ?_
      refine j_less (L' := [some (.ref (r 0)), some (.int (nI 0)), some (.int (nI (q ++ [x]).length)), some (.int (nI (x + 1))), none, none]) ⟨Or.inr rfl, Or.inr rfl, Or.inr (by rw [List.length_append, List.length_singleton, ← nI_inc]), Or.inr (by rw [← nI_inc]), Or.inl rfl, Or.inl rfl, trivial⟩ ?_
      have hxq : x ∉ q := fun h => absurd (hq2 x h) (Nat.lt_irrefl _)
      have hG9 := hG.push (t := x) (by omega)
      rw [show (0 + q.length) % 80000 = q.length by omega] at hG9
      refine ih (x + 1) _ _ _ ⟨by omega, spQ_out hxq ▸ spQ_nodup hq1, (fun y hy => ?_), (fun y hy => ?_), hG9, hW.push⟩ (by omega)
      · rcases List.mem_append.mp hy with h | h
        · have := hq2 y h; omega
        · simp at h; omega
      · by_cases hyx : y = x
        · subst hyx
          exact ⟨fun _ => hcl, fun _ => by simp⟩
        · rw [← hq3 y (by omega)]
          simp [hyx]
