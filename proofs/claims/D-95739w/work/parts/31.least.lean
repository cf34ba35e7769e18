set_option maxRecDepth 100000
/-- what can be reached at which cost, of the states themselves -/
def rcA (stp : Nat → A4 → A4) (K : Nat) (w : Nat → Nat) (B : A4 → Nat → Prop) : Nat → A4 → Nat → Prop
  | 0, a, n => B a n
  | i + 1, a, n => ∃ y v k, rcA stp K w B i y v ∧ k < K ∧ a = stp k y ∧ n = v + w k
def rcE (stp : Nat → A4 → A4) (K : Nat) (w : Nat → Nat) (B : A4 → Nat → Prop) (a : A4) (n : Nat) : Prop := ∃ i, rcA stp K w B i a n
/-- the least number with P (none: -1) -/
noncomputable def lstN (P : Nat → Prop) : Int32 := @dite Int32 (∃ n, P n ∧ ∀ k, P k → n ≤ k) (Classical.propDecidable _) (fun h => nI (Classical.choose h)) (fun _ => -1)
theorem lstN_is {P : Nat → Prop} {n : Nat} (h1 : P n) (h2 : ∀ k, P k → n ≤ k) : lstN P = nI n := by
  have h : ∃ n, P n ∧ ∀ k, P k → n ≤ k := ⟨n, h1, h2⟩
  unfold lstN
  rw [dif_pos h]
  have hc := Classical.choose_spec h
  exact congrArg nI (Nat.le_antisymm (hc.2 n h1) (h2 _ hc.1))
theorem lstN_none {P : Nat → Prop} (h : ∀ n, ¬ P n) : lstN P = -1 := by
  unfold lstN
  rw [dif_neg (fun ⟨n, hn, _⟩ => h n hn)]
theorem lstN_lt {P : Nat → Prop} {FR b : Nat} (hb : b < FR) (h1 : b < FR → P b) (h2 : ∀ n, P n → b ≤ n) : nI b = lstN (fun n => P n ∧ n < FR) := (lstN_is ⟨h1 hb, hb⟩ (fun k hk => h2 k hk.1)).symm
theorem lstN_no {P : Nat → Prop} {FR b : Nat} (hb : FR ≤ b) (h2 : ∀ n, P n → b ≤ n) : -1 = lstN (fun n => P n ∧ n < FR) := (lstN_none (fun n hn => by have := h2 n hn.1; have := hn.2; omega)).symm
/-- c: the least costs with P, cut at FR -/
def cpA (m FR : Nat) (P : A4 → Nat → Prop) (c : Nat → Nat) : Prop := ∀ x, x < 8 * m * m → c x ≤ FR ∧ (c x < FR → P (decA m x) (c x)) ∧ ∀ n, P (decA m x) n → c x ≤ n
theorem spD.step {st : Nat → Nat → Nat} {K : Nat} {w : Nat → Nat} {B : Nat → Nat → Prop} {N FR : Nat} {c : Nat → Nat} (h : spD st K w B N FR c) {k y : Nat} (hk : k < K) (hy : y < N) (ht : st k y < N) : c (st k y) ≤ c y + w k := by
  have h1 := h y hy
  have h2 := h _ ht
  by_cases hl : c y < FR
  · exact h2.2.2 _ ((h1.2.1 hl).step hk)
  · omega
theorem spD.toA {kd bs m K FR : Nat} {ks : Nat → KY} {w : Nat → Nat} {B : Nat → Nat → Prop} {BA : A4 → Nat → Prop} {c : Nat → Nat} (hD : okD kd bs m) (hks : ∀ k, k < K → okK bs m (ks k)) (h : spD (fun k x => strk kd bs m (ks k) x) K w B (8 * m * m) FR c) (hB1 : ∀ x n, B x n → x < 8 * m * m ∧ BA (decA m x) n) (hB2 : ∀ a n, BA a n → okA m a ∧ c (encA m a) ≤ n) : cpA m FR (rcE (fun k a => stk kd bs m (ks k) a) K w BA) c := by
  have k1 : ∀ i x n, rchL (fun k x => strk kd bs m (ks k) x) K w B i x n → x < 8 * m * m ∧ rcA (fun k a => stk kd bs m (ks k) a) K w BA i (decA m x) n := by
    intro i
    induction i with
    | zero => exact fun x n hr => hB1 x n hr
    | succ i ih =>
      intro x n hr
      obtain ⟨y, v, k, hy, hk, rfl, rfl⟩ := hr
      have h1 := ih y v hy
      have ho : okA m (stk kd bs m (ks k) (decA m y)) := stk_ok hD (hks k hk) (decA_ok hD.pos h1.1)
      refine ⟨strk_lt hD (hks k hk) h1.1, decA m y, v, k, h1.2, hk, ?_, rfl⟩
      show decA m (encA m _) = _
      exact decA_encA ho
  have k2 : ∀ i a n, rcA (fun k a => stk kd bs m (ks k) a) K w BA i a n → okA m a ∧ c (encA m a) ≤ n := by
    intro i
    induction i with
    | zero => exact fun a n hr => hB2 a n hr
    | succ i ih =>
      intro a n hr
      obtain ⟨y, v, k, hy, hk, rfl, rfl⟩ := hr
      have h1 := ih y v hy
      have ho : okA m (stk kd bs m (ks k) y) := stk_ok hD (hks k hk) h1.1
      refine ⟨ho, ?_⟩
      have h3 : strk kd bs m (ks k) (encA m y) = encA m (stk kd bs m (ks k) y) := by unfold strk; rw [decA_encA h1.1]
      have h2 := h.step hk (encA_lt h1.1) (by show strk kd bs m (ks k) (encA m y) < _; rw [h3]; exact encA_lt ho)
      have h4 : c (strk kd bs m (ks k) (encA m y)) ≤ c (encA m y) + w k := h2
      rw [h3] at h4
      show c (encA m (stk kd bs m (ks k) y)) ≤ v + w k
      omega
  intro x hx
  refine ⟨(h x hx).1, fun hl => ?_, fun n hn => ?_⟩
  · obtain ⟨i, hi⟩ := (h x hx).2.1 hl
    exact ⟨i, (k1 i x _ hi).2⟩
  · obtain ⟨i, hi⟩ := hn
    have := (k2 i _ n hi).2
    rw [encA_decA] at this
    exact this
theorem cpA.least {kd bs m K FR s0 : Nat} {ks : Nat → KY} {w : Nat → Nat} {c : Nat → Nat} (hD : okD kd bs m) (hks : ∀ k, k < K → okK bs m (ks k)) (hs : s0 < 8 * m * m) (h : spD (fun k x => strk kd bs m (ks k) x) K w (fun x n => x = s0 ∧ n = 0) (8 * m * m) FR c) : cpA m FR (rcE (fun k a => stk kd bs m (ks k) a) K w (fun a n => a = decA m s0 ∧ n = 0)) c := by
  refine h.toA hD hks (fun x n hb => ⟨by rw [hb.1]; exact hs, by rw [hb.1], hb.2⟩) (fun a n hb => ?_)
  obtain ⟨rfl, rfl⟩ := hb
  rw [encA_decA]
  exact ⟨decA_ok hD.pos hs, (h s0 hs).2.2 0 ⟨0, rfl, rfl⟩⟩
theorem cpA.goOn {kd bs m K FR : Nat} {ks : Nat → KY} {w : Nat → Nat} {c c0 : Nat → Nat} {P : A4 → Nat → Prop} (hD : okD kd bs m) (hks : ∀ k, k < K → okK bs m (ks k)) (hP : ∀ a n, P a n → okA m a) (h0 : cpA m FR P c0) (h : spD (fun k x => strk kd bs m (ks k) x) K w (fun x n => x < 8 * m * m ∧ c0 x = n ∧ n < FR) (8 * m * m) FR c) : cpA m FR (rcE (fun k a => stk kd bs m (ks k) a) K w P) c := by
  refine h.toA hD hks (fun x n hb => ⟨hb.1, ?_⟩) (fun a n hb => ?_)
  · obtain ⟨h1, rfl, h3⟩ := hb
    exact (h0 x h1).2.1 h3
  · have ho := hP a n hb
    have hl := encA_lt ho
    refine ⟨ho, ?_⟩
    have h1 := (h0 _ hl).2.2 n (by rw [decA_encA ho]; exact hb)
    have h2 := h _ hl
    by_cases hf : c0 (encA m a) < FR
    · have := h2.2.2 _ ⟨0, hl, rfl, hf⟩
      omega
    · omega
theorem rcE.ok {kd bs m K : Nat} {ks : Nat → KY} {w : Nat → Nat} {P : A4 → Nat → Prop} (hD : okD kd bs m) (hks : ∀ k, k < K → okK bs m (ks k)) (hP : ∀ a n, P a n → okA m a) {a : A4} {n : Nat} (h : rcE (fun k a => stk kd bs m (ks k) a) K w P a n) : okA m a := by
  obtain ⟨i, hi⟩ := h
  induction i generalizing a n with
  | zero => exact hP a n hi
  | succ i ih =>
    obtain ⟨y, v, k, hy, hk, rfl, rfl⟩ := hi
    exact stk_ok hD (hks k hk) (ih hy)
/-- the least of the costs of those below x with p -/
def mnR (p : Nat → Prop) (c : Nat → Nat) (FR x b : Nat) : Prop := b ≤ FR ∧ (b < FR → ∃ y, y < x ∧ p y ∧ c y = b) ∧ ∀ y, y < x → p y → b ≤ c y
theorem mnR.zero {p : Nat → Prop} {c : Nat → Nat} {FR : Nat} : mnR p c FR 0 FR := ⟨Nat.le_refl _, fun h => absurd h (Nat.lt_irrefl _), fun y hy => absurd hy (Nat.not_lt_zero _)⟩
theorem mnR.skip {p : Nat → Prop} {c : Nat → Nat} {FR x b : Nat} (h : mnR p c FR x b) (hp : ¬ p x) : mnR p c FR (x + 1) b := by
  refine ⟨h.1, fun hb => ?_, fun y hy hpy => ?_⟩
  · obtain ⟨y, h1, h2⟩ := h.2.1 hb
    exact ⟨y, by omega, h2⟩
  · by_cases e : y = x
    · subst e; exact absurd hpy hp
    · exact h.2.2 y (by omega) hpy
theorem mnR.take {p : Nat → Prop} {c : Nat → Nat} {FR x b : Nat} (h : mnR p c FR x b) (hp : p x) (hc : c x ≤ FR) : mnR p c FR (x + 1) (if c x < b then c x else b) := by
  split
  · rename_i hl
    refine ⟨hc, fun hb => ⟨x, by omega, hp, rfl⟩, fun y hy hpy => ?_⟩
    by_cases e : y = x
    · subst e; exact Nat.le_refl _
    · have := h.2.2 y (by omega) hpy; omega
  · rename_i hl
    refine ⟨h.1, fun hb => ?_, fun y hy hpy => ?_⟩
    · obtain ⟨y, h1, h2⟩ := h.2.1 hb
      exact ⟨y, by omega, h2⟩
    · by_cases e : y = x
      · subst e; omega
      · exact h.2.2 y (by omega) hpy
theorem nI_min {a b : Nat} (ha : a < 2 ^ 31) (hb : b < 2 ^ 31) : (if nI a < nI b then nI a else nI b) = nI (if a < b then a else b) := by
  by_cases h : a < b
  · rw [if_pos h, if_pos (nI_lt h hb)]
  · rw [if_neg h, if_neg (fun q => h ((nI_ltI ha hb).mp q))]
/-- from the costs' array to the answer -/
theorem mn_ans {m FR b : Nat} {p : Nat → Prop} {P : A4 → Nat → Prop} {pA : A4 → Prop} {c : Nat → Nat} (hm : 0 < m) (hP : ∀ a n, P a n → okA m a) (hc : cpA m FR P c) (hpp : ∀ x, p x ↔ pA (decA m x)) (h : mnR p c FR (8 * m * m) b) : (b < FR → ∃ a, P a b ∧ pA a) ∧ ∀ n, (∃ a, P a n ∧ pA a) → b ≤ n := by
  refine ⟨fun hb => ?_, fun n hn => ?_⟩
  · obtain ⟨y, h1, h2, h3⟩ := h.2.1 hb
    exact ⟨decA m y, h3 ▸ (hc y h1).2.1 (by omega), (hpp y).mp h2⟩
  · obtain ⟨a, h1, h2⟩ := hn
    have ho := hP a n h1
    have hl := encA_lt ho
    have h4 := (hc _ hl).2.2 n (by rw [decA_encA ho]; exact h1)
    have h5 := h.2.2 _ hl ((hpp _).mpr (by rw [decA_encA ho]; exact h2))
    omega
theorem vo3_sc {V : Nat → Nat → Int32} {a b c : Nat → Int32} : ∀ k, ¬ isSc k → vo V [(7, a), (11, b), (12, c)] k = V k := vo_sc (by intro q hq; simp at hq; rcases hq with rfl | rfl | rfl <;> exact Or.inl ⟨Nat.le_of_ble_eq_true rfl, Nat.le_of_ble_eq_true rfl⟩)
set_option maxHeartbeats 4000000 in
theorem f_least1 {l : Launch} {D : va_G} {dT : Nat → ClassId} {H0 : Heap} {r : Nat → Nat} {nx : Nat} {g : j_H} {F : Nat → Nat} {V : Nat → Nat → Int32} {nk : Nat} (h60 : g 60 = some (rcell (.ref (r 61)) (r 62) nk)) {kd bs fg m : Nat} {ks : Nat → KY} (hK : fkK r dT g kd bs fg m nk ks) (v : Nat) (hv : v < m) (hs : F 0 < 8 * m * m) : MC (gG l D dT H0) yX0_least cX0_least 4 (some .int) 7 0 0 [.ref (r 0), .int (nI v)] r (fkS r dT g F V) nx (jq_s (lstN (fun n => (∃ a, rcE (fun k a => stk kd bs m (ks k) a) nk (fun k => (ks k).2.1) (fun a n => a = decA m (F 0) ∧ n = 0) a n ∧ a.2.2.1 = v) ∧ n < 999999)) r dT g F V nx) := by
  obtain ⟨h61, hD, hkn, ka, h62, hks⟩ := id hK
  have hm := hD.pos
  have hm2 := hD.le
  have hmm := mm_le hm2
  refine MC.ofJ [some (.ref (r 0)), some (.int (nI v)), none, none] rfl (Nat.le_of_ble_eq_true rfl) (by decide) ?_
  refine j_aload_n dX0_least_0 rfl ?_
  refine j_iload_n dX0_least_1 rfl ?_
  refine j_callVi (f_isNumber1 h60 h61 hm hm2 _) dX0_least_2 pmX0_isNumber q920 q922 qs17 (by first | rfl | assumption) rfl rfl rfl ⟨Nat.le_of_ble_eq_true rfl, Nat.le_of_ble_eq_true rfl⟩ ⟨Nat.le_of_ble_eq_true rfl, Nat.le_of_ble_eq_true rfl⟩ rfl (Nat.le_of_ble_eq_true rfl) ?_
  refine j_ifb_ne (tgt := 11) dX0_least_5 (by decide) (fun c5 => ?_) (fun c5 => absurd (nI_inr hv (by omega)) c5)
  refine j_aload_n dX0_least_11 rfl ?_
  refine j_callV (f_spreadCosts h60 hK hs) q_costs.isR dX0_least_12 pmX0_spreadCosts q953 q955 qs20 (by first | rfl | assumption) rfl rfl rfl ⟨Nat.le_of_ble_eq_true rfl, Nat.le_of_ble_eq_true rfl⟩ ⟨Nat.le_of_ble_eq_true rfl, Nat.le_of_ble_eq_true rfl⟩ rfl (Nat.le_of_ble_eq_true rfl) ?_
  rintro v9 r h9 nx ⟨e9, rfl, rfl, rw', ca, wa, c, rfl, hC, hsp⟩
  cases e9
  refine j_ldc dX0_least_15 q957 ?_
  refine j_istore_n dX0_least_17 (by decide) rfl ?_
  refine j_iconst (v := 0) dX0_least_18 (by decide) ?_
  refine j_istore_n dX0_least_19 (by decide) rfl ?_
  have hcp := cpA.least hD (fun k hk => (hks k hk).2.2) hs hsp
  refine j_less (L' := [some (.ref (r 0)), some (.int (nI v)), some (.int (nI 999999)), some (.int (nI 0))]) ⟨Or.inr rfl, Or.inr rfl, Or.inr rfl, Or.inr rfl, trivial⟩ ?_
  refine j_lp2 (fun (x b : Nat) => fkS r dT g F (vo V [(7, rw'), (11, ca), (12, wa)])) (fun x b => [some (.ref (r 0)), some (.int (nI v)), some (.int (nI b)), some (.int (nI x))]) (fun x b => x ≤ 8 * m * m ∧ mnR (fun y => sS m y = v) c 999999 x b) (fun x _ => 8 * m * m - x) ?_ 0 999999 ⟨Nat.zero_le _, mnR.zero⟩
  intro x b ⟨hx, hmn⟩ ih
  have hbl := hmn.1
  refine j_iload_n dX0_least_20 rfl ?_
  refine j_aload_n dX0_least_21 rfl ?_
  refine j_get 0 dX0_least_22 (by first | rfl | assumption) in_X0 rfl (by decide) q153 rfl ?_
  refine j_getN 0 dX0_least_25 (by first | rfl | assumption) in_X1 rfl (by decide) (fun _ hs => hs.1 _ qn104) rfl ?_
  refine j_callVi (c_states 61 kd bs fg m (by exact h61) hm hm2) dX0_least_28 pmX6_states q928 q929 q930 (by first | rfl | assumption) rfl rfl rfl ⟨Nat.le_of_ble_eq_true rfl, Nat.le_of_ble_eq_true rfl⟩ ⟨Nat.le_of_ble_eq_true rfl, Nat.le_of_ble_eq_true rfl⟩ rfl (Nat.le_of_ble_eq_true rfl) ?_
  refine j_icmp_ge (tgt := 64) dX0_least_31 (by decide) (fun c31 => ?_) (fun c31 => ?_)
  · skip
    have hxe : x = 8 * m * m := by
      have := (nI_leI (by omega) (by omega)).mp c31
      omega
    subst hxe
    have han := mn_ans (P := rcE (fun k a => stk kd bs m (ks k) a) nk (fun k => (ks k).2.1) (fun a n => a = decA m (F 0) ∧ n = 0)) (pA := fun a => a.2.2.1 = v) hm (fun a n h => rcE.ok (P := fun a n => a = decA m (F 0) ∧ n = 0) hD (fun k hk => (hks k hk).2.2) (fun a n hb => by rw [hb.1]; exact decA_ok hm hs) h) hcp (fun x => Iff.rfl) hmn
    refine j_iload_n dX0_least_64 rfl ?_
    refine j_ldc dX0_least_65 q957 ?_
    refine j_icmp_ne (tgt := 74) dX0_least_67 (by decide) (fun c67 => ?_) (fun c67 => ?_)
    · skip
      have hb9 : b < 999999 := by
        have hb8 : ¬ b = 999999 := fun q => c67 (by rw [q]; rfl)
        omega
      refine j_iload_n dX0_least_74 rfl ?_
      refine j_iret dX0_least_75 rfl rfl (Nat.le_refl _) (Nat.le_refl _) ?_
      exact js_i (lstN_lt hb9 han.1 han.2) vo3_sc
    · skip
      have hb9 : b = 999999 := (nI_eq (by omega) (by decide)).mp (show nI b = nI 999999 from c67)
      refine j_iconst (v := (-1)) dX0_least_70 (by decide) ?_
      refine j_goto (tgt := 75) dX0_least_71 (by decide) ?_
      refine j_iret dX0_least_75 rfl rfl (Nat.le_refl _) (Nat.le_refl _) ?_
      exact js_i (lstN_no (Nat.le_of_eq hb9.symm) han.2) vo3_sc
  · skip
    have hxl : x < 8 * m * m := Nat.lt_of_not_le (fun q => c31 (nI_le q (by omega)))
    have hcx := (hcp x hxl).1
    have hsx : sS m x < m := Nat.mod_lt _ hm
    refine j_join (tgt := 57) (fun z => ∃ b2, z = nI b2 ∧ mnR (fun y => sS m y = v) c 999999 (x + 1) b2) (fun v34 hv34 => ?_) (fun kj34 => ?_)
    · skip
      obtain ⟨b2, rfl, hmn2⟩ := hv34
      refine j_istore_n dX0_least_57 (by decide) rfl ?_
      refine j_iinc dX0_least_58 rfl (by decide) rfl ?_
      refine j_goto (tgt := 20) dX0_least_61 (by decide) ?_
      refine j_less (L' := [some (.ref (r 0)), some (.int (nI v)), some (.int (nI b2)), some (.int (nI (x + 1)))]) ⟨Or.inr rfl, Or.inr rfl, Or.inr rfl, Or.inr (by rw [← nI_inc]), trivial⟩ ?_
      exact ih (x + 1) b2 ⟨by omega, hmn2⟩ (by omega)
    · skip
      refine j_aload_n dX0_least_34 rfl ?_
      refine j_iload_n dX0_least_35 rfl ?_
      refine j_callVi (f_shown1 h60 h61 hm hm2 x (by omega)) dX0_least_36 pmX0_shown q771 q773 qs14 (by first | rfl | assumption) rfl rfl rfl ⟨Nat.le_of_ble_eq_true rfl, Nat.le_of_ble_eq_true rfl⟩ ⟨Nat.le_of_ble_eq_true rfl, Nat.le_of_ble_eq_true rfl⟩ rfl (Nat.le_of_ble_eq_true rfl) ?_
      refine j_iload_n dX0_least_39 rfl ?_
      refine j_icmp_ne (tgt := 56) dX0_least_40 (by decide) (fun c40 => ?_) (fun c40 => ?_)
      · skip
        have c40 : ¬ sS m x = v := fun q => c40 (by rw [q])
        refine j_iload_n dX0_least_56 rfl ?_
        exact kj34 _ (by first | exact ⟨_, nI_min (by omega) (by omega), hmn.take c40 hcx⟩ | exact ⟨_, rfl, hmn.skip c40⟩)
      · skip
        have c40 : sS m x = v := (nI_eq (by omega) (by omega)).mp c40
        refine j_iload_n dX0_least_43 rfl ?_
        refine j_aload_n dX0_least_44 rfl ?_
        refine j_get 13 dX0_least_45 (by first | rfl | assumption) in_X0 rfl (by decide) q166 rfl ?_
        refine j_iload_n dX0_least_48 rfl ?_
        refine j_iald 0 x dX0_least_49 (by first | rfl | assumption) rfl rfl (by show x < 80000; omega) (by decide) ?_
        refine j_eqi (show _ = nI (c x) from hC x hxl) ?_
        refine j_min dX0_least_50 q961 ⟨Nat.le_of_ble_eq_true rfl, Nat.le_of_ble_eq_true rfl, Nat.le_of_ble_eq_true rfl, Nat.le_of_ble_eq_true rfl⟩ ?_
        refine j_goto (tgt := 57) dX0_least_53 (by decide) ?_
        exact kj34 _ (by first | exact ⟨_, nI_min (by omega) (by omega), hmn.take c40 hcx⟩ | exact ⟨_, rfl, hmn.skip c40⟩)
/-- the states and strokes in which so many targets have been shown, one behind the other -/
def stgA (stp : Nat → A4 → A4) (K : Nat) (a0 : A4) (tg : Nat → Nat) : Nat → A4 → Nat → Prop
  | 0, a, n => a = a0 ∧ n = 0
  | i + 1, a, n => rcE stp K (fun _ => 1) (stgA stp K a0 tg i) a n ∧ a.2.2.1 = tg i
theorem stgA.ok {kd bs m K : Nat} {ks : Nat → KY} {a0 : A4} {tg : Nat → Nat} (hD : okD kd bs m) (hks : ∀ k, k < K → okK bs m (ks k)) (h0 : okA m a0) : ∀ i a n, stgA (fun k a => stk kd bs m (ks k) a) K a0 tg i a n → okA m a
  | 0, a, n, h => by rw [h.1]; exact h0
  | i + 1, a, n, h => rcE.ok hD hks (stgA.ok hD hks h0 i) h.1
def fltC (m t : Nat) (c : Nat → Nat) : Nat → Nat := fun y => if sS m y = t then c y else 999999
theorem cpA.flt {m t : Nat} {P : A4 → Nat → Prop} {c : Nat → Nat} (h : cpA m 999999 P c) : cpA m 999999 (fun a n => P a n ∧ a.2.2.1 = t) (fltC m t c) := by
  intro x hx
  unfold fltC
  by_cases he : sS m x = t
  · rw [if_pos he]
    exact ⟨(h x hx).1, fun hl => ⟨(h x hx).2.1 hl, he⟩, fun n hn => (h x hx).2.2 n hn.1⟩
  · rw [if_neg he]
    exact ⟨Nat.le_refl _, fun hl => absurd hl (Nat.lt_irrefl _), fun n hn => absurd hn.2 he⟩
theorem cpA.zero {m s0 FR : Nat} (hs : s0 < 8 * m * m) : cpA m FR (fun a n => a = decA m s0 ∧ n = 0) (va_up (fun _ => FR) s0 0) := by
  intro x hx
  by_cases he : x = s0
  · subst he
    rw [va_up_self]
    exact ⟨Nat.zero_le _, fun _ => ⟨rfl, rfl⟩, fun n hn => Nat.zero_le _⟩
  · rw [va_up_ne _ _ he]
    refine ⟨Nat.le_refl _, fun hl => absurd hl (Nat.lt_irrefl _), fun n hn => absurd ?_ he⟩
    have := congrArg (encA m) hn.1
    rw [encA_decA, encA_decA] at this
    exact this
set_option maxHeartbeats 4000000 in
theorem f_list1 {l : Launch} {D : va_G} {dT : Nat → ClassId} {H0 : Heap} {r : Nat → Nat} {nx : Nat} {g : j_H} {F : Nat → Nat} {V : Nat → Nat → Int32} {nk : Nat} (h60 : g 60 = some (rcell (.ref (r 61)) (r 62) nk)) {kd bs fg m : Nat} {ks : Nat → KY} (hK : fkK r dT g kd bs fg m nk ks) (tg : Nat → Nat) (htg : ∀ i, i < F 2 → V 2 i = nI (tg i) ∧ tg i < m) (hn6 : F 2 ≤ 6) (hs : F 0 < 8 * m * m) : MC (gG l D dT H0) yX0_list cX0_list 3 (some .int) 7 0 0 [.ref (r 0)] r (fkS r dT g F V) nx (jq_s (lstN (fun n => (∃ a, stgA (fun k a => stk kd bs m (ks k) a) nk (decA m (F 0)) tg (F 2) a n ∧ True) ∧ n < 999999)) r dT g F V nx) := by
  obtain ⟨h61, hD, hkn, ka, h62, hks⟩ := id hK
  have hm := hD.pos
  have hm2 := hD.le
  have hmm := mm_le hm2
  have hc0 : cstR (8 * m * m) (va_up (fun _ => 999999) (F 0) 0) (upd (fun j => if 0 ≤ j ∧ j < 8 * m * m then 999999 else V 11 j) (F 0) 0) := by
    refine cstR.up (v := 0) (fun x hx => ?_)
    rw [if_pos ⟨Nat.zero_le _, hx⟩]
    rfl
  refine MC.ofJ [some (.ref (r 0)), none, none] rfl (Nat.le_of_ble_eq_true rfl) (by decide) ?_
  refine j_re rfl rfl (h' := fkS r dT g F (vo V [(11, V 11)])) (by rw [vo_same _ (by simp)]) ?_
  refine j_aload_n dX0_list_0 rfl ?_
  refine j_callVi (f_isNone1 h60) dX0_list_1 pmX0_isNone q759 q761 qs13 (by first | rfl | assumption) rfl rfl rfl ⟨Nat.le_of_ble_eq_true rfl, Nat.le_of_ble_eq_true rfl⟩ ⟨Nat.le_of_ble_eq_true rfl, Nat.le_of_ble_eq_true rfl⟩ rfl (Nat.le_of_ble_eq_true rfl) ?_
  refine j_if_eq (tgt := 9) dX0_list_4 (by decide) (fun c4 => ?_) (fun c4 => absurd rfl c4)
  refine j_aload_n dX0_list_9 rfl ?_
  refine j_get 13 dX0_list_10 (by first | rfl | assumption) in_X0 rfl (by decide) q166 rfl ?_
  refine j_iconst (v := 0) dX0_list_13 (by decide) ?_
  refine j_aload_n dX0_list_14 rfl ?_
  refine j_get 0 dX0_list_15 (by first | rfl | assumption) in_X0 rfl (by decide) q153 rfl ?_
  refine j_getN 0 dX0_list_18 (by first | rfl | assumption) in_X1 rfl (by decide) (fun _ hs => hs.1 _ qn104) rfl ?_
  refine j_callVi (c_states 61 kd bs fg m (by exact h61) hm hm2) dX0_list_21 pmX6_states q928 q929 q930 (by first | rfl | assumption) rfl rfl rfl ⟨Nat.le_of_ble_eq_true rfl, Nat.le_of_ble_eq_true rfl⟩ ⟨Nat.le_of_ble_eq_true rfl, Nat.le_of_ble_eq_true rfl⟩ rfl (Nat.le_of_ble_eq_true rfl) ?_
  refine j_ldc dX0_list_24 q957 ?_
  refine j_callSv (c_fill 11 80000 0 (8 * m * m) 999999 (V 11) (by exact rfl) (by omega) hmm (by decide)) dX0_list_26 pmJ6_fill q932 q933 rfl ⟨Nat.le_of_ble_eq_true rfl, Nat.le_of_ble_eq_true rfl⟩ ⟨Nat.le_of_ble_eq_true rfl, Nat.le_of_ble_eq_true rfl⟩ rfl (Nat.le_of_ble_eq_true rfl) ?_
  refine j_o1 ?_
  refine j_fkW (f := (fun j => if 0 ≤ j ∧ j < 8 * m * m then 999999 else V 11 j)) (by decide) rfl ?_
  refine j_aload_n dX0_list_29 rfl ?_
  refine j_get 13 dX0_list_30 (by first | rfl | assumption) in_X0 rfl (by decide) q166 rfl ?_
  refine j_aload_n dX0_list_33 rfl ?_
  refine j_get 1 dX0_list_34 (by first | rfl | assumption) in_X0 rfl (by decide) q154 rfl ?_
  refine j_getN 0 dX0_list_37 (by first | rfl | assumption) in_X2 rfl (by decide) (fun _ hs => hs.1 _ qn125) rfl ?_
  refine j_iconst (v := 0) dX0_list_40 (by decide) ?_
  refine j_iast 0 (F 0) dX0_list_41 (by first | rfl | assumption) rfl rfl (by show F 0 < 80000; omega) (by decide) ?_
  refine j_fkW (f := _) (by decide) rfl ?_
  refine j_iconst (v := 0) dX0_list_42 (by decide) ?_
  refine j_istore_n dX0_list_43 (by decide) rfl ?_
  refine j_less (L' := [some (.ref (r 0)), some (.int (nI 0)), none]) ⟨Or.inr rfl, Or.inr rfl, Or.inl rfl, trivial⟩ ?_
  refine j_lp3 (fun (i : Nat) (c : Nat → Nat) (V1 : Nat → Nat → Int32) => fkS r dT g F V1) (fun i _ _ => [some (.ref (r 0)), some (.int (nI i)), none]) (fun i c V1 => i ≤ F 2 ∧ (∀ k, ¬ isSc k → V1 k = V k) ∧ cstR (8 * m * m) c (V1 11) ∧ cpA m 999999 (stgA (fun k a => stk kd bs m (ks k) a) nk (decA m (F 0)) tg i) c) (fun i _ _ => F 2 - i) ?_ 0 (va_up (fun _ => 999999) (F 0) 0) _ ⟨Nat.zero_le _, vo_sc (by intro q hq; simp [v_upd] at hq; rw [hq]; exact Or.inl ⟨Nat.le_of_ble_eq_true rfl, Nat.le_of_ble_eq_true rfl⟩), hc0, cpA.zero hs⟩
  intro i c V1 ⟨hi, hoff, hC, hcp⟩ ih
  refine j_iload_n dX0_list_44 rfl ?_
  refine j_aload_n dX0_list_45 rfl ?_
  refine j_get 1 dX0_list_46 (by first | rfl | assumption) in_X0 rfl (by decide) q154 rfl ?_
  refine j_getN 3 dX0_list_49 (by first | rfl | assumption) in_X2 rfl (by decide) (fun _ hs => hs.1 _ qn131) rfl ?_
  refine j_icmp_ge (tgt := 121) dX0_list_52 (by decide) (fun c52 => ?_) (fun c52 => ?_)
  · skip
    have hie : i = F 2 := by
      have := (nI_leI (by omega) (by omega)).mp c52
      omega
    rw [hie] at hcp
    refine j_ldc dX0_list_121 q957 ?_
    refine j_istore_n dX0_list_123 (by decide) rfl ?_
    refine j_iconst (v := 0) dX0_list_124 (by decide) ?_
    refine j_istore_n dX0_list_125 (by decide) rfl ?_
    refine j_less (L' := [some (.ref (r 0)), some (.int (nI 999999)), some (.int (nI 0))]) ⟨Or.inr rfl, Or.inr rfl, Or.inr rfl, trivial⟩ ?_
    refine j_lp2 (fun (x b : Nat) => fkS r dT g F V1) (fun x b => [some (.ref (r 0)), some (.int (nI b)), some (.int (nI x))]) (fun x b => x ≤ 8 * m * m ∧ mnR (fun y => True) c 999999 x b) (fun x _ => 8 * m * m - x) ?_ 0 999999 ⟨Nat.zero_le _, mnR.zero⟩
    clear ih
    intro x b ⟨hx, hmn⟩ ih
    have hbl := hmn.1
    refine j_iload_n dX0_list_126 rfl ?_
    refine j_aload_n dX0_list_127 rfl ?_
    refine j_get 0 dX0_list_128 (by first | rfl | assumption) in_X0 rfl (by decide) q153 rfl ?_
    refine j_getN 0 dX0_list_131 (by first | rfl | assumption) in_X1 rfl (by decide) (fun _ hs => hs.1 _ qn104) rfl ?_
    refine j_callVi (c_states 61 kd bs fg m (by exact h61) hm hm2) dX0_list_134 pmX6_states q928 q929 q930 (by first | rfl | assumption) rfl rfl rfl ⟨Nat.le_of_ble_eq_true rfl, Nat.le_of_ble_eq_true rfl⟩ ⟨Nat.le_of_ble_eq_true rfl, Nat.le_of_ble_eq_true rfl⟩ rfl (Nat.le_of_ble_eq_true rfl) ?_
    refine j_icmp_ge (tgt := 157) dX0_list_137 (by decide) (fun c137 => ?_) (fun c137 => ?_)
    · skip
      have hxe : x = 8 * m * m := by
        have := (nI_leI (by omega) (by omega)).mp c137
        omega
      subst hxe
      have han := mn_ans (P := stgA (fun k a => stk kd bs m (ks k) a) nk (decA m (F 0)) tg (F 2)) (pA := fun a => True) hm (stgA.ok hD (fun k hk => (hks k hk).2.2) (decA_ok hm hs) _) hcp (fun x => Iff.rfl) hmn
      refine j_iload_n dX0_list_157 rfl ?_
      refine j_ldc dX0_list_158 q957 ?_
      refine j_icmp_ne (tgt := 167) dX0_list_160 (by decide) (fun c160 => ?_) (fun c160 => ?_)
      · skip
        have hb9 : b < 999999 := by
          have hb8 : ¬ b = 999999 := fun q => c160 (by rw [q]; rfl)
          omega
        refine j_iload_n dX0_list_167 rfl ?_
        refine j_iret dX0_list_168 rfl rfl (Nat.le_refl _) (Nat.le_refl _) ?_
        exact js_i (lstN_lt hb9 han.1 han.2) hoff
      · skip
        have hb9 : b = 999999 := (nI_eq (by omega) (by decide)).mp (show nI b = nI 999999 from c160)
        refine j_iconst (v := (-1)) dX0_list_163 (by decide) ?_
        refine j_goto (tgt := 168) dX0_list_164 (by decide) ?_
        refine j_iret dX0_list_168 rfl rfl (Nat.le_refl _) (Nat.le_refl _) ?_
        exact js_i (lstN_no (Nat.le_of_eq hb9.symm) han.2) hoff
    · skip
      have hxl : x < 8 * m * m := Nat.lt_of_not_le (fun q => c137 (nI_le q (by omega)))
      have hcx := (hcp x hxl).1
      refine j_iload_n dX0_list_140 rfl ?_
      refine j_aload_n dX0_list_141 rfl ?_
      refine j_get 13 dX0_list_142 (by first | rfl | assumption) in_X0 rfl (by decide) q166 rfl ?_
      refine j_iload_n dX0_list_145 rfl ?_
      refine j_iald 0 x dX0_list_146 (by first | rfl | assumption) rfl rfl (by show x < 80000; omega) (by decide) ?_
      refine j_eqi (show _ = nI (c x) from hC x hxl) ?_
      refine j_min dX0_list_147 q961 ⟨Nat.le_of_ble_eq_true rfl, Nat.le_of_ble_eq_true rfl, Nat.le_of_ble_eq_true rfl, Nat.le_of_ble_eq_true rfl⟩ ?_
      refine j_eqi (nI_min (by omega) (by omega)) ?_
      refine j_istore_n dX0_list_150 (by decide) rfl ?_
      refine j_iinc dX0_list_151 rfl (by decide) rfl ?_
      refine j_goto (tgt := 126) dX0_list_154 (by decide) ?_
      refine j_less (L' := [some (.ref (r 0)), some (.int (nI (if c x < b then c x else b))), some (.int (nI (x + 1)))]) ⟨Or.inr rfl, Or.inr rfl, Or.inr (by rw [← nI_inc]), trivial⟩ ?_
      exact ih (x + 1) _ ⟨by omega, hmn.take trivial hcx⟩ (by omega)
  · skip
    have hil : i < F 2 := Nat.lt_of_not_le (fun q => c52 (nI_le q (by omega)))
    have htl := (htg i hil).2
    have htv : V1 2 i = nI (tg i) := (congrFun (hoff 2 (by unfold isSc; omega)) i).trans (htg i hil).1
    refine j_aload_n dX0_list_55 rfl ?_
    refine j_callV (f_goOn (V := V1) h60 hK c hC (fun x hx => (hcp x hx).1)) q_costs.isR dX0_list_56 pmX0_goOn q1005 q1007 qs23 (by first | rfl | assumption) rfl rfl rfl ⟨Nat.le_of_ble_eq_true rfl, Nat.le_of_ble_eq_true rfl⟩ ⟨Nat.le_of_ble_eq_true rfl, Nat.le_of_ble_eq_true rfl⟩ rfl (Nat.le_of_ble_eq_true rfl) ?_
    rintro v9 r h9 nx ⟨e9, rfl, rfl, rw', ca, wa, c2, rfl, hC2, hsp⟩
    cases e9
    refine j_iconst (v := 0) dX0_list_59 (by decide) ?_
    refine j_istore_n dX0_list_60 (by decide) rfl ?_
    have hcp2 := hcp.goOn hD (fun k hk => (hks k hk).2.2) (stgA.ok hD (fun k hk => (hks k hk).2.2) (decA_ok hm hs) i) hsp
    refine j_less (L' := [some (.ref (r 0)), some (.int (nI i)), some (.int (nI 0))]) ⟨Or.inr rfl, Or.inr rfl, Or.inr rfl, trivial⟩ ?_
    refine j_lp2 (fun (x : Nat) (ca : Nat → Int32) => fkS r dT g F (vo V1 [(7, rw'), (11, ca), (12, wa)])) (fun x _ => [some (.ref (r 0)), some (.int (nI i)), some (.int (nI x))]) (fun x ca => x ≤ 8 * m * m ∧ (∀ y, y < x → ca y = nI (fltC m (tg i) c2 y)) ∧ ∀ y, x ≤ y → y < 8 * m * m → ca y = nI (c2 y)) (fun x _ => 8 * m * m - x) ?_ 0 ca ⟨Nat.zero_le _, (fun y hy => absurd hy (Nat.not_lt_zero _)), fun y _ hy => hC2 y hy⟩
    clear hC2 ca
    intro x ca ⟨hx, hca1, hca2⟩ ih2
    refine j_iload_n dX0_list_61 rfl ?_
    refine j_aload_n dX0_list_62 rfl ?_
    refine j_get 0 dX0_list_63 (by first | rfl | assumption) in_X0 rfl (by decide) q153 rfl ?_
    refine j_getN 0 dX0_list_66 (by first | rfl | assumption) in_X1 rfl (by decide) (fun _ hs => hs.1 _ qn104) rfl ?_
    refine j_callVi (c_states 61 kd bs fg m (by exact h61) hm hm2) dX0_list_69 pmX6_states q928 q929 q930 (by first | rfl | assumption) rfl rfl rfl ⟨Nat.le_of_ble_eq_true rfl, Nat.le_of_ble_eq_true rfl⟩ ⟨Nat.le_of_ble_eq_true rfl, Nat.le_of_ble_eq_true rfl⟩ rfl (Nat.le_of_ble_eq_true rfl) ?_
    refine j_icmp_ge (tgt := 115) dX0_list_72 (by decide) (fun c72 => ?_) (fun c72 => ?_)
    · skip
      have hxe : x = 8 * m * m := by
        have := (nI_leI (by omega) (by omega)).mp c72
        omega
      refine j_iinc dX0_list_115 rfl (by decide) rfl ?_
      refine j_goto (tgt := 44) dX0_list_118 (by decide) ?_
      refine j_less (L' := [some (.ref (r 0)), some (.int (nI (i + 1))), none]) ⟨Or.inr rfl, Or.inr (by rw [← nI_inc]), Or.inl rfl, trivial⟩ ?_
      exact ih (i + 1) (fltC m (tg i) c2) _ ⟨by omega, (fun k hk => (vo3_sc k hk).trans (hoff k hk)), (fun y hy => hca1 y (by omega)), hcp2.flt⟩ (by omega)
    · skip
      have hxl : x < 8 * m * m := Nat.lt_of_not_le (fun q => c72 (nI_le q (by omega)))
      have hsx : sS m x < m := Nat.mod_lt _ hm
      refine j_aload_n dX0_list_75 rfl ?_
      refine j_get 13 dX0_list_76 (by first | rfl | assumption) in_X0 rfl (by decide) q166 rfl ?_
      refine j_iload_n dX0_list_79 rfl ?_
      refine j_join (tgt := 108) (fun z => z = nI (fltC m (tg i) c2 x)) (fun v80 hv80 => ?_) (fun kj80 => ?_)
      · skip
        subst hv80
        refine j_iast 0 x dX0_list_108 (by first | rfl | assumption) rfl rfl (by show x < 80000; omega) (by decide) ?_
        refine j_fkW (f := _) (by decide) rfl ?_
        refine j_iinc dX0_list_109 rfl (by decide) rfl ?_
        refine j_goto (tgt := 61) dX0_list_112 (by decide) ?_
        refine j_less (L' := [some (.ref (r 0)), some (.int (nI i)), some (.int (nI (x + 1)))]) ⟨Or.inr rfl, Or.inr rfl, Or.inr (by rw [← nI_inc]), trivial⟩ ?_
        refine ih2 (x + 1) _ ⟨by omega, (fun y hy => ?_), fun y h1 h2 => (pk_un (by omega)).trans (hca2 y (by omega) h2)⟩ (by omega)
        by_cases he : y = x
        · subst he; exact pk_us
        · exact (pk_un he).trans (hca1 y (by omega))
      · skip
        refine j_aload_n dX0_list_80 rfl ?_
        refine j_iload_n dX0_list_81 rfl ?_
        refine j_callVi (f_shown1 h60 h61 hm hm2 x (by omega)) dX0_list_82 pmX0_shown q771 q773 qs14 (by first | rfl | assumption) rfl rfl rfl ⟨Nat.le_of_ble_eq_true rfl, Nat.le_of_ble_eq_true rfl⟩ ⟨Nat.le_of_ble_eq_true rfl, Nat.le_of_ble_eq_true rfl⟩ rfl (Nat.le_of_ble_eq_true rfl) ?_
        refine j_aload_n dX0_list_85 rfl ?_
        refine j_get 1 dX0_list_86 (by first | rfl | assumption) in_X0 rfl (by decide) q154 rfl ?_
        refine j_getN 2 dX0_list_89 (by first | rfl | assumption) in_X2 rfl (by decide) (fun _ hs => hs.1 _ qn129) rfl ?_
        refine j_iload_n dX0_list_92 rfl ?_
        refine j_iald 0 i dX0_list_93 (by first | rfl | assumption) rfl rfl (by show i < 6; omega) (by decide) ?_
        refine j_eqi (show _ = nI (tg i) from htv) ?_
        refine j_icmp_ne (tgt := 106) dX0_list_94 (by decide) (fun c94 => ?_) (fun c94 => ?_)
        · skip
          have hj1 : (999999 : Int32) = nI (fltC m (tg i) c2 x) := by
            unfold fltC
            rw [if_neg (fun q => c94 (by rw [q]))]
            rfl
          refine j_ldc dX0_list_106 q957 ?_
          exact kj80 _ (by first | exact hj1 | exact hj2)
        · skip
          have hj2 : nI (c2 x) = nI (fltC m (tg i) c2 x) := by
            unfold fltC
            rw [if_pos ((nI_eq (by omega) (by omega)).mp c94)]
          refine j_aload_n dX0_list_97 rfl ?_
          refine j_get 13 dX0_list_98 (by first | rfl | assumption) in_X0 rfl (by decide) q166 rfl ?_
          refine j_iload_n dX0_list_101 rfl ?_
          refine j_iald 0 x dX0_list_102 (by first | rfl | assumption) rfl rfl (by show x < 80000; omega) (by decide) ?_
          refine j_eqi (show _ = nI (c2 x) from hca2 x (Nat.le_refl _) hxl) ?_
          refine j_goto (tgt := 108) dX0_list_103 (by decide) ?_
          exact kj80 _ (by first | exact hj1 | exact hj2)
set_option maxHeartbeats 4000000 in
theorem f_list0 {l : Launch} {D : va_G} {dT : Nat → ClassId} {H0 : Heap} {r : Nat → Nat} {nx : Nat} {g : j_H} {F : Nat → Nat} {V : Nat → Nat → Int32} {a nk : Nat} (h60 : g 60 = some (rcell .null a nk)) : MC (gG l D dT H0) yX0_list cX0_list 3 (some .int) 7 0 0 [.ref (r 0)] r (fkS r dT g F V) nx (jq_i (0) r (fkS r dT g F V) nx) := by
  refine MC.ofJ [some (.ref (r 0)), none, none] rfl (Nat.le_of_ble_eq_true rfl) (by decide) ?_
  refine j_aload_n dX0_list_0 rfl ?_
  refine j_callVi (f_isNone0 h60) dX0_list_1 pmX0_isNone q759 q761 qs13 (by first | rfl | assumption) rfl rfl rfl ⟨Nat.le_of_ble_eq_true rfl, Nat.le_of_ble_eq_true rfl⟩ ⟨Nat.le_of_ble_eq_true rfl, Nat.le_of_ble_eq_true rfl⟩ rfl (Nat.le_of_ble_eq_true rfl) ?_
  refine j_if_eq (tgt := 9) dX0_list_4 (by decide) (fun c4 => absurd c4 (by decide)) (fun c4 => ?_)
  refine j_iconst (v := 0) dX0_list_7 (by decide) ?_
  refine j_iret dX0_list_8 rfl rfl (Nat.le_refl _) (Nat.le_refl _) ?_
  exact jr_i rfl
