set_option maxRecDepth 100000
def faC (f x : Nat) : va_E := .inr (5, [.null, .null, .null, .null, .null, .int 0, .int (nI f), .int (nI x)])
/-- the Reader throws: a Fault (number f, place x) under the id 240 -/
def q_rt (f x : Nat) (n td : Nat) (r : Nat → Nat) (h : j_H) (nx : Nat) : j_Q := fun o r' h' nx' => o = .threw (r 240) ∧ r' = r ∧ nx' = nx + 1 ∧ ∃ a' f', h' = j_set (j_set h 200 (rdC (r 5) n td a' f')) 240 (faC f x)
theorem q_rt.isT {f x n td : Nat} {r : Nat → Nat} {h : j_H} {nx : Nat} : j_isT (q_rt f x n td r h nx) := fun _ _ _ _ hq => ⟨_, hq.1⟩
/-- digits as FewKeys reads them: no more than 9999 -/
def dvm (T : Nat → Nat) (q : Nat) : Nat → Nat
  | 0 => 0
  | k + 1 => if 9999 < 10 * dvm T q k + (T (q + k) - 48) then 9999 else 10 * dvm T q k + (T (q + k) - 48)
theorem dvm_le {T : Nat → Nat} {q : Nat} : ∀ k, dvm T q k ≤ 9999
  | 0 => Nat.zero_le _
  | k + 1 => by rw [dvm]; split <;> omega
theorem dvm_eq {T : Nat → Nat} {q : Nat} : ∀ k, k ≤ 3 → (∀ i, i < k → 48 ≤ T (q + i) ∧ T (q + i) ≤ 57) → dvm T q k = dv T q k
  | 0, _, _ => rfl
  | k + 1, h, hd => by
    have h1 := dv_lt (k + 1) hd
    have h2 : 10 ^ (k + 1) ≤ 1000 := Nat.le_trans (Nat.pow_le_pow_right (by decide) h) (by decide)
    rw [dvm, dvm_eq k (by omega) (fun i hi => hd i (by omega))]
    rw [dv] at h1 ⊢
    rw [if_neg (by omega)]
set_option maxHeartbeats 4000000 in
theorem r_end1 {l : Launch} {D : va_G} {dT : Nat → ClassId} {H0 : Heap} {r : Nat → Nat} {h : j_H} {nx : Nat} {dTx : Nat → Int32} {T : Nat → Nat} {n td a fr : Nat} (h5 : h 5 = some (txC dT dTx)) (hsb : sbR dTx n T) (hn4 : n ≤ 400) (ha : a ≤ n) (hok : (pEnd T n a).1 = 0) : MC (gG l D dT H0) yX4_end cX4_end 1 none 5 0 0 [.ref (r 200)] r (j_set h 200 (rdC (r 5) n td a fr)) nx (jq_v r (j_set h 200 (rdC (r 5) n td (pEnd T n a).2.2 fr)) nx) := by
  have hq : sk T n a ≤ n := rgE_le ha
  have hpe : sk T n a < n ∧ T (sk T n a) = 59 := by
    refine Classical.byContradiction (fun q => ?_)
    unfold pEnd at hok
    rw [if_neg q] at hok
    exact absurd hok (by intro z; cases z)
  have hpos : (pEnd T n a).2.2 = sk T n a + 1 := by unfold pEnd; rw [if_pos hpe]
  refine MC.ofJ [some (.ref (r 200))] rfl (Nat.le_of_ble_eq_true rfl) (by decide) ?_
  refine j_aload_n dX4_end_0 rfl ?_
  refine j_callVi (r_here h5 hsb hn4 ha) dX4_end_1 pmX4_here q258 q260 qs0 j_set_self rfl rfl rfl ⟨Nat.le_of_ble_eq_true rfl, Nat.le_of_ble_eq_true rfl⟩ ⟨Nat.le_of_ble_eq_true rfl, Nat.le_of_ble_eq_true rfl⟩ rfl (Nat.le_of_ble_eq_true rfl) ?_
  rw [if_pos hpe.1]
  refine j_bipush (v := 59) dX4_end_4 (by decide) ?_
  refine j_icmp_ne (tgt := 13) dX4_end_6 (by decide) (fun c6 => absurd (by rw [hpe.2]; rfl) c6) (fun c6 => ?_)
  refine j_iconst (v := 1) dX4_end_9 (by decide) ?_
  refine j_goto (tgt := 14) dX4_end_10 (by decide) ?_
  refine j_iconst (v := 1) dX4_end_14 (by decide) ?_
  refine j_aload_n dX4_end_15 rfl ?_
  refine j_get 3 dX4_end_16 j_set_self in_X4 rfl (by decide) q241 rfl ?_
  refine j_callSv (r_want1 1 (nI (sk T n a))) dX4_end_19 pmX4_want q469 q470 rfl ⟨Nat.le_of_ble_eq_true rfl, Nat.le_of_ble_eq_true rfl⟩ ⟨Nat.le_of_ble_eq_true rfl, Nat.le_of_ble_eq_true rfl⟩ rfl (Nat.le_of_ble_eq_true rfl) ?_
  refine j_aload_n dX4_end_22 rfl ?_
  refine j_dup dX4_end_23 rfl ?_
  refine j_get 3 dX4_end_24 j_set_self in_X4 rfl (by decide) q241 rfl ?_
  refine j_iconst (v := 1) dX4_end_27 (by decide) ?_
  refine j_iadd dX4_end_28 ?_
  refine j_eqi (show _ = nI (sk T n a + 1) from nI_1 _) ?_
  refine j_put 3 dX4_end_29 j_set_self in_X4 tyX4_ok nmX4 rfl (by decide) q241 rfl rfl rfl (by first | decide | simp) ?_
  refine j_re rfl rfl (h' := (j_set h 200 (rdC (r 5) n td (sk T n a + 1) fr))) j_set2 ?_
  refine j_vret dX4_end_32 rfl (Nat.le_refl _) (Nat.le_refl _) ?_
  exact jr_v (by rw [hpos])
set_option maxHeartbeats 4000000 in
theorem r_end0 {l : Launch} {D : va_G} {dT : Nat → ClassId} {H0 : Heap} {r : Nat → Nat} {h : j_H} {nx : Nat} {dTx : Nat → Int32} {T : Nat → Nat} {n td a fr : Nat} (h5 : h 5 = some (txC dT dTx)) (hsb : sbR dTx n T) (hn4 : n ≤ 400) (ha : a ≤ n) (hok : ¬ (pEnd T n a).1 = 0) (hrn : r 240 = nx) : MC (gG l D dT H0) yX4_end cX4_end 1 none 5 1 8 [.ref (r 200)] r (j_set h 200 (rdC (r 5) n td a fr)) nx (q_rt (pEnd T n a).1 (pEnd T n a).2.1 n td r h nx) := by
  have hq : sk T n a ≤ n := rgE_le ha
  have hpe : ¬ (sk T n a < n ∧ T (sk T n a) = 59) := fun q => hok (by unfold pEnd; rw [if_pos q])
  have hpx : pEnd T n a = (1, sk T n a, 0) := by unfold pEnd; rw [if_neg hpe]
  refine MC.ofJ [some (.ref (r 200))] rfl (Nat.le_of_ble_eq_true rfl) (by decide) ?_
  refine j_aload_n dX4_end_0 rfl ?_
  refine j_callVi (r_here h5 hsb hn4 ha) dX4_end_1 pmX4_here q258 q260 qs0 j_set_self rfl rfl rfl ⟨Nat.le_of_ble_eq_true rfl, Nat.le_of_ble_eq_true rfl⟩ ⟨Nat.le_of_ble_eq_true rfl, Nat.le_of_ble_eq_true rfl⟩ rfl (Nat.le_of_ble_eq_true rfl) ?_
  refine j_bipush (v := 59) dX4_end_4 (by decide) ?_
  refine j_icmp_ne (tgt := 13) dX4_end_6 (by decide) (fun c6 => ?_) (fun c6 => absurd c6 (fun q => hpe (by
      by_cases hc : sk T n a < n
      · rw [if_pos hc] at q
        exact ⟨hc, (nI_eq (by have := (hsb _ hc).2; omega) (by decide)).mp (show nI (T (sk T n a)) = nI 59 from q)⟩
      · rw [if_neg hc] at q
        exact absurd q (by decide))))
  refine j_iconst (v := 0) dX4_end_13 (by decide) ?_
  refine j_iconst (v := 1) dX4_end_14 (by decide) ?_
  refine j_aload_n dX4_end_15 rfl ?_
  refine j_get 3 dX4_end_16 j_set_self in_X4 rfl (by decide) q241 rfl ?_
  refine j_callST (r_want0 1 (nI (sk T n a)) 240 hrn) jq_t.isT rfl dX4_end_19 pmX4_want q469 q470 rfl ⟨(Nat.le_of_ble_eq_true rfl), (Nat.le_of_ble_eq_true rfl)⟩ ⟨(Nat.le_of_ble_eq_true rfl), (Nat.le_of_ble_eq_true rfl)⟩ rfl (Nat.le_of_ble_eq_true rfl) (Nat.le_of_ble_eq_true rfl) (Nat.le_of_ble_eq_true rfl) ?_
  rintro v9 r9 h9 nx9 ⟨e9, rfl, rfl, rfl⟩
  cases e9
  rw [hpx]
  exact ⟨rfl, rfl, rfl, _, _, rfl⟩
