set_option maxRecDepth 100000
section MV
variable {G : j_G} {cc : ByteArray} {own : String} {nL : Nat} {ret : Option FieldType} {nm : String} {R : Room} {xt : Code → Prop} {Q : j_Q} {mc ms cells slots : Nat} {r r' : Nat → Nat} {h : j_H} {nx pc : Nat} {L : List (Option Value)} {st : List Value}
/-- ids without a cell get other addresses -/
theorem j_sc (hr : ∀ i e, h i = some e → r' i = r i) (k : J G (cc, own, nL, ret, nm, R, xt) Q mc ms cells slots r' h nx pc L st) : J G (cc, own, nL, ret, nm, R, xt) Q mc ms cells slots r h nx pc L st :=
  j_ids (fun i => i) (fun i e hi => ⟨hi, hr i e hi⟩) (fun _ _ _ _ _ _ z => z) k
end MV
/-- the scratch ids hold no cell -/
def scF (h : j_H) : Prop := ∀ i, 210 ≤ i → i < 220 → h i = none
/-- the ids that a word keeps -/
def kpI (i : Nat) : Prop := i < 210 ∨ 220 ≤ i
theorem scF.kp {h : j_H} (hs : scF h) {i : Nat} {e : va_E} (hi : h i = some e) : kpI i := by
  unfold kpI
  refine Classical.byContradiction (fun q => ?_)
  rw [hs i (by omega) (by omega)] at hi
  cases hi
/-- capacities, and the slots that growing has taken -/
def cpN : Nat → Nat
  | 0 => 16
  | i + 1 => 2 * cpN i + 2
def sN : Nat → Nat
  | 0 => 0
  | i + 1 => sN i + (2 * cpN i + 2)
theorem cs_le {i : Nat} (h : i ≤ 5) : cpN i ≤ 574 ∧ sN i ≤ 1106 ∧ (cpN i < 400 → i ≤ 4) := by
  have ck : i = 0 ∨ i = 1 ∨ i = 2 ∨ i = 3 ∨ i = 4 ∨ i = 5 := by omega
  rcases ck with rfl | rfl | rfl | rfl | rfl | rfl <;> decide
/-- the builder while a word is read -/
def wdH (dT : Nat → ClassId) (h : j_H) (n td q : Nat) (r : Nat → Nat) (k g : Nat) (f : Nat → Int32) : j_H := j_set (j_set (j_set h 200 (rdC (r 5) n td (q + k) q)) 211 (byC dT (cpN g) f)) 210 (sbC (r 211) k)
/-- a word is read: the string lies under 213, its bytes under 214 -/
def q_word (T : Nat → Nat) (n td q a' : Nat) (dT : Nat → ClassId) (r : Nat → Nat) (h : j_H) : j_Q := fun o r' h' _ => o = .returned (some (.ref (r' 213))) ∧ (∀ i, kpI i → r' i = r i ∧ (i ≠ 200 → h' i = h i)) ∧ h' 200 = some (rdC (r 5) n td a' q) ∧ h' 213 = some (strC (r' 214)) ∧ ∃ g : Nat → Int32, h' 214 = some (byC dT (a' - q) g) ∧ ∀ j, j < a' - q → g j = nI (T (q + j)) ∧ T (q + j) < 128
theorem q_word.isR {T : Nat → Nat} {n td q a' : Nat} {dT : Nat → ClassId} {r : Nat → Nat} {h : j_H} : j_isR (q_word T n td q a' dT r h) := fun _ _ _ _ hq => ⟨_, hq.1⟩
theorem upd_lt {f : Nat → Int32} {T : Nat → Nat} {q k c : Nat} (hf : ∀ j, j < k → f j = nI (T (q + j)) ∧ T (q + j) < 128) (hc : c = T (q + k)) (h128 : c < 128) {f2 : Nat → Int32} (h2 : ∀ j, j < k → f2 j = f j) : ∀ j, j < k + 1 → upd f2 k (nI c) j = nI (T (q + j)) ∧ T (q + j) < 128 := by
  intro j hj
  unfold upd
  by_cases e : j = k
  · subst e; rw [if_pos rfl, hc]; exact ⟨rfl, by rw [← hc]; exact h128⟩
  · rw [if_neg e, h2 j (by omega)]; exact hf j (by omega)
set_option maxHeartbeats 4000000 in
theorem r_word {l : Launch} {D : va_G} {dT : Nat → ClassId} {H0 : Heap} {r : Nat → Nat} {h : j_H} {nx : Nat} {dTx : Nat → Int32} {T : Nat → Nat} {n td a fr : Nat} (h5 : h 5 = some (txC dT dTx)) (hsb : sbR dTx n T) (hn4 : n ≤ 400) (ha : a ≤ n) (h200 : h 200 = some (rdC (r 5) n td a fr)) (hsc : scF h) : MC (gG l D dT H0) yX4_word cX4_word 3 (some (.object "java/lang/String")) 6 10 1600 [.ref (r 200)] r h nx (q_word T n td (sk T n a) (we T n (sk T n a)) dT r h) := by
  refine MC.ofJ [some (.ref (r 200)), none, none] rfl (Nat.le_of_ble_eq_true rfl) (by decide) ?_
  obtain ⟨r1, hr1, q210, q211⟩ : ∃ r1 : Nat → Nat, (∀ i, kpI i → r1 i = r i) ∧ r1 210 = nx ∧ r1 211 = nx + 1 := ⟨va_up (va_up r 210 nx) 211 (nx + 1), fun i hi => by unfold kpI at hi; rw [va_up_ne _ _ (by omega), va_up_ne _ _ (by omega)], by rw [va_up_ne _ _ (by decide), va_up_self], va_up_self _ _ _⟩
  refine j_sc (r' := r1) (fun i e hi => hr1 i (hsc.kp hi)) ?_
  refine j_re (L' := [some (.ref (r1 200)), none, none]) (by rw [hr1 200 (Or.inl (by decide))]) rfl rfl ?_
  have h200 : h 200 = some (rdC (r1 5) n td a fr) := by rw [hr1 5 (Or.inl (by decide))]; exact h200
  have hqn : sk T n a ≤ n := rgE_le ha
  have hwn : we T n (sk T n a) ≤ n := rgE_le hqn
  have hwg : sk T n a ≤ we T n (sk T n a) := rgE_ge
  obtain ⟨q, hq⟩ : ∃ q, sk T n a = q := ⟨_, rfl⟩
  rw [hq] at hqn hwn hwg
  rw [hq]
  refine j_new (ci := 7) (fs := [.null, .int 0, .int 0, .int 0]) 210 q210 dX4_word_0 in_J1 tyJ1_ok rfl q270 q271 q67 (fun j hj => by
    have hj3 : j = 0 ∨ j = 1 ∨ j = 2 ∨ j = 3 := by have hj4 : j < 4 := hj; omega
    rcases hj3 with rfl | rfl | rfl | rfl <;> rfl) (Nat.le_of_ble_eq_true rfl) (Nat.le_of_ble_eq_true rfl) ?_
  refine j_dup dX4_word_3 rfl ?_
  refine j_callIv (b_init j_set_self q211) dX4_word_4 pmJ1_init q272 q273 rfl rfl ⟨Nat.le_of_ble_eq_true rfl, Nat.le_of_ble_eq_true rfl⟩ ⟨Nat.le_of_ble_eq_true rfl, Nat.le_of_ble_eq_true rfl⟩ rfl (Nat.le_of_ble_eq_true rfl) ?_
  refine j_re rfl rfl (h' := (j_set (j_set h 211 (byC dT 16 (fun _ => 0))) 210 (sbC (r1 211) 0))) (by
    funext i9
    by_cases e210 : i9 = 210
    · subst e210; rfl
    by_cases e211 : i9 = 211
    · subst e211; rfl
    simp only [wdH, j_set, j_beq_f e210, j_beq_f e211, cond_false]) ?_
  refine j_astore_n dX4_word_7 (by decide) rfl ?_
  refine j_re rfl rfl (h' := j_set (j_set (j_set h 211 (byC dT 16 (fun _ => 0))) 210 (sbC (r1 211) 0)) 200 (rdC (r1 5) n td a fr)) (j_set_id (by rw [j_set_ne (by decide), j_set_ne (by decide)]; exact h200)).symm ?_
  refine j_aload_n dX4_word_8 rfl ?_
  refine j_callVi (r_here (by rw [j_set_ne (by decide), j_set_ne (by decide)]; exact h5) hsb hn4 ha) dX4_word_9 pmX4_here q258 q260 qs0 j_set_self rfl rfl rfl ⟨Nat.le_of_ble_eq_true rfl, Nat.le_of_ble_eq_true rfl⟩ ⟨Nat.le_of_ble_eq_true rfl, Nat.le_of_ble_eq_true rfl⟩ rfl (Nat.le_of_ble_eq_true rfl) ?_
  rw [hq]
  refine j_topi (fun c9 hc9 => ?_)
  clear hc9
  refine j_istore_n dX4_word_12 (by decide) rfl ?_
  refine j_aload_n dX4_word_13 rfl ?_
  refine j_aload_n dX4_word_14 rfl ?_
  refine j_get 3 dX4_word_15 j_set_self in_X4 rfl (by decide) q241 rfl ?_
  refine j_put 4 dX4_word_18 j_set_self in_X4 tyX4_ok nmX4 rfl (by decide) q242 rfl rfl rfl (by first | decide | simp) ?_
  refine j_re rfl rfl (h' := j_set (j_set (j_set h 211 (byC dT 16 (fun _ => 0))) 210 (sbC (r1 211) 0)) 200 (rdC (r1 5) n td q q)) j_set2 ?_
  refine j_re rfl rfl (h' := wdH dT h n td q r1 0 0 (fun _ => 0)) (by
    funext i9
    by_cases e210 : i9 = 210
    · subst e210; rfl
    by_cases e211 : i9 = 211
    · subst e211; rfl
    by_cases e200 : i9 = 200
    · subst e200; rfl
    simp only [wdH, j_set, j_beq_f e210, j_beq_f e211, j_beq_f e200, cond_false]) ?_
  refine j_wide (c' := 2 + 0) (s' := 20 + sN 0) (Nat.le_of_ble_eq_true rfl) (Nat.le_of_ble_eq_true rfl) ?_
  refine j_lpX (A := Nat × Nat × (Nat → Int32) × (Nat → Nat) × Nat) (fun a => ((2 + a.2.1, 20 + sN a.2.1), a.2.2.2.1, wdH dT h n td q a.2.2.2.1 a.1 a.2.1 a.2.2.1, a.2.2.2.2, [some (.ref (a.2.2.2.1 200)), some (.ref (a.2.2.2.1 210)), some (.int c9)])) (fun a => q + a.1 ≤ n ∧ we T n (q + a.1) = we T n q ∧ a.1 ≤ cpN a.2.1 ∧ a.2.1 ≤ 5 ∧ bfit a.2.2.1 ∧ (∀ j, j < a.1 → a.2.2.1 j = nI (T (q + j)) ∧ T (q + j) < 128) ∧ ∀ i, kpI i → a.2.2.2.1 i = r i) (fun a => n - (q + a.1)) ?_ (0, 0, (fun _ => 0), r1, nx + 2) ⟨hqn, rfl, Nat.zero_le _, Nat.zero_le _, fun _ => rfl, fun j hj => absurd hj (Nat.not_lt_zero _), hr1⟩
  rintro ⟨k, gi, f, ρ, nx1⟩ ⟨hk, hwe, hkc, hgi, hbf, hf, hρ⟩ ih
  dsimp only at hk hwe hkc hgi hbf hf hρ ih ⊢
  obtain ⟨cs1, cs2, cs3⟩ := cs_le hgi
  have cs4 := (show sN (gi + 1) = sN gi + (2 * cpN gi + 2) from rfl)
  have h5ρ : wdH dT h n td q ρ k gi f 5 = some (txC dT dTx) := by unfold wdH; rw [j_set_ne (by decide), j_set_ne (by decide), j_set_ne (by decide)]; exact h5
  have h200ρ : wdH dT h n td q ρ k gi f 200 = some (rdC (ρ 5) n td (q + k) q) := by unfold wdH; rw [j_set_ne (by decide), j_set_ne (by decide)]; exact j_set_self
  refine j_cut (tgt := 79) (fun (_ : Unit) => q + k = we T n q) (fun _ => wdH dT h n td q ρ k gi f) (fun _ => [some (.ref (ρ 200)), some (.ref (ρ 210)), some (.int c9)]) ?_ (fun kc21 => ?_)
  · skip
    intro _ hout
    obtain ⟨ρ2, hρ2, q213, q214⟩ : ∃ ρ2 : Nat → Nat, (∀ i, i ≠ 213 → i ≠ 214 → ρ2 i = ρ i) ∧ ρ2 213 = nx1 ∧ ρ2 214 = nx1 + 1 := ⟨va_up (va_up ρ 213 nx1) 214 (nx1 + 1), fun i h1 h2 => by rw [va_up_ne _ _ h2, va_up_ne _ _ h1], by rw [va_up_ne _ _ (by decide), va_up_self], va_up_self _ _ _⟩
    have hno : ∀ i, i = 213 ∨ i = 214 → wdH dT h n td q ρ k gi f i = none := by
      intro i hi
      unfold wdH
      rw [j_set_ne (by omega), j_set_ne (by omega), j_set_ne (by omega), hsc i (by omega) (by omega)]
    refine j_sc (r' := ρ2) (fun i e hi => hρ2 i (fun z => by rw [hno i (Or.inl z)] at hi; cases hi) (fun z => by rw [hno i (Or.inr z)] at hi; cases hi)) ?_
    refine j_re (L' := [some (.ref (ρ2 200)), some (.ref (ρ2 210)), some (.int c9)]) (h' := wdH dT h n td q ρ2 k gi f) (by rw [hρ2 200 (by decide) (by decide), hρ2 210 (by decide) (by decide)]) rfl (by unfold wdH; rw [hρ2 5 (by decide) (by decide), hρ2 211 (by decide) (by decide)]) ?_
    refine j_aload_n dX4_word_79 rfl ?_
    refine j_callV (b_tos hkc (by omega) hbf q213 q214) q_ts.isR dX4_word_80 pmJ1_toString q397 q398 q399 (by unfold wdH; exact j_set_self) rfl rfl rfl ⟨Nat.le_of_ble_eq_true rfl, Nat.le_of_ble_eq_true rfl⟩ ⟨(by show 2 + gi + 2 ≤ 10; omega), (by show 20 + sN gi + (4 + k) ≤ 1600; omega)⟩ rfl (Nat.le_of_ble_eq_true rfl) ?_
    rintro v9 r9 h9 nx9 ⟨e1, e2, e4, g9, hg9, e3⟩
    obtain rfl := e2.symm
    obtain rfl := e3.symm
    obtain rfl := e4.symm
    cases e1
    refine j_aret dX4_word_83 rfl (Or.inl ⟨_, rfl⟩) (Or.inr ⟨_, rfl⟩) (by show 2 + gi + 2 ≤ 10; omega) (by show 20 + sN gi + (4 + k) ≤ 1600; omega) ?_
    refine ⟨rfl, fun i hi => ⟨?_, fun hi2 => ?_⟩, ?_, ?_, g9, ?_, ?_⟩
    · unfold kpI at hi; rw [hρ2 i (by omega) (by omega)]; exact hρ i hi
    · unfold kpI at hi; rw [j_set_ne (by omega), j_set_ne (by omega), j_set_ne (by omega), j_set_ne (by omega), j_set_ne (by omega), j_set_ne (by omega)]
    · rw [j_set_ne (by decide), j_set_ne (by decide), j_set_ne (by decide), j_set_ne (by decide), j_set_ne (by decide), j_set_self, hρ2 5 (by decide) (by decide), hρ 5 (Or.inl (by decide)), hout]
    · rw [j_set_self]
    · rw [j_set_ne (by decide), j_set_self, show we T n q - q = k by omega]
    · intro j hj; rw [hg9 j (by omega)]; exact hf j (by omega)
  · skip
    refine j_aload_n dX4_word_21 rfl ?_
    refine j_get 3 dX4_word_22 h200ρ in_X4 rfl (by decide) q241 rfl ?_
    refine j_aload_n dX4_word_25 rfl ?_
    refine j_get 1 dX4_word_26 h200ρ in_X4 rfl (by decide) q239 rfl ?_
    refine j_icmp_ge (tgt := 79) dX4_word_29 (by decide) (fun c29 => ?_) (fun c29 => ?_)
    · skip
      have h29 : n ≤ q + k := (nI_leI (by omega) (by omega)).mp c29
      have hout : q + k = we T n q := by rw [← hwe]; exact (rgE_end h29).symm
      exact kc21 () hout
    · skip
      have h29 : q + k < n := Nat.lt_of_not_le (fun z => c29 (nI_le z (by omega)))
      obtain ⟨e1, e2⟩ := hsb (q + k) h29
      obtain ⟨i1, -, i3⟩ := sb_in (T (q + k)) e2
      refine j_aload_n dX4_word_32 rfl ?_
      refine j_get 0 dX4_word_33 h200ρ in_X4 rfl (by decide) q238 rfl ?_
      refine j_aload_n dX4_word_36 rfl ?_
      refine j_get 3 dX4_word_37 h200ρ in_X4 rfl (by decide) q241 rfl ?_
      refine j_bald 1 (q + k) dX4_word_40 h5ρ rfl rfl (by omega) (by decide) ?_
      refine j_eqi (show _ = sbI (T (q + k)) from e1) ?_
      refine j_bipush (v := 97) dX4_word_41 (by decide) ?_
      refine j_bipush (v := 122) dX4_word_43 (by decide) ?_
      refine j_callSNi (c_X0_isIn _ _ _) dX4_word_45 pmX0_isIn (fun _ hs => hs.1 _ qn301) q221 rfl ⟨Nat.le_of_ble_eq_true rfl, Nat.le_of_ble_eq_true rfl⟩ ⟨(by show 2 + gi + 0 ≤ 10; omega), (by show 20 + sN gi + 0 ≤ 1600; omega)⟩ rfl (Nat.le_of_ble_eq_true rfl) ?_
      refine j_ifb_eq (tgt := 79) dX4_word_48 (by decide) (fun c48 => ?_) (fun c48 => ?_)
      · skip
        have h48 : ¬ (97 ≤ T (q + k) ∧ T (q + k) ≤ 122) := fun z => c48 (i1.mpr z)
        have hout : q + k = we T n q := by rw [← hwe]; exact (rgE_out h48).symm
        refine j_wide (c' := 2 + gi) (s' := 20 + sN gi) (by omega) (by omega) ?_
        exact kc21 () hout
      · skip
        have h48 : 97 ≤ T (q + k) ∧ T (q + k) ≤ 122 := i1.mp c48
        have hgo : we T n (q + k) = we T n (q + k + 1) := rgE_go h29 h48
        have hsbe : sbI (T (q + k)) = nI (T (q + k)) := i3 (by omega)
        by_cases hkl : k < cpN gi
        · skip
          refine j_aload_n dX4_word_51 rfl ?_
          refine j_aload_n dX4_word_52 rfl ?_
          refine j_get 0 dX4_word_53 h200ρ in_X4 rfl (by decide) q238 rfl ?_
          refine j_aload_n dX4_word_56 rfl ?_
          refine j_get 3 dX4_word_57 h200ρ in_X4 rfl (by decide) q241 rfl ?_
          refine j_bald 1 (q + k) dX4_word_60 h5ρ rfl rfl (by omega) (by decide) ?_
          refine j_eqi (show _ = sbI (T (q + k)) from e1) ?_
          refine j_i2c dX4_word_61 ?_
          refine j_eqi (show _ = nI (T (q + k)) by rw [hsbe]; exact i2c_lo _ (by omega)) ?_
          refine j_callV (b_ap0 (T (q + k)) (by omega) hkl (by omega)) jq_n.isR dX4_word_62 pmJ1_append q302 q303 q304 (by unfold wdH; exact j_set_self) rfl rfl rfl ⟨Nat.le_of_ble_eq_true rfl, Nat.le_of_ble_eq_true rfl⟩ ⟨(by show 2 + gi + 0 + 0 ≤ 10; omega), (by show 20 + sN gi + 0 + 0 ≤ 1600; omega)⟩ rfl (Nat.le_of_ble_eq_true rfl) ?_
          rintro v9 r9 h9 nx9 ⟨e1, e2, e3, e4⟩
          obtain rfl := e2.symm
          obtain rfl := e3.symm
          obtain rfl := e4.symm
          cases e1
          refine j_pop dX4_word_65 rfl ?_
          refine j_aload_n dX4_word_66 rfl ?_
          refine j_dup dX4_word_67 rfl ?_
          refine j_get 3 dX4_word_68 (by rw [j_set_ne (by decide), j_set_ne (by decide)]; exact j_set_self) in_X4 rfl (by decide) q241 rfl ?_
          refine j_iconst (v := 1) dX4_word_71 (by decide) ?_
          refine j_iadd dX4_word_72 ?_
          refine j_eqi (show _ = nI (q + k + 1) from nI_1 _) ?_
          refine j_put 3 dX4_word_73 (by rw [j_set_ne (by decide), j_set_ne (by decide)]; exact j_set_self) in_X4 tyX4_ok nmX4 rfl (by decide) q241 rfl rfl rfl (by first | decide | simp) ?_
          refine j_re rfl rfl (h' := wdH dT h n td q ρ (k + 1) gi (upd f k (nI (T (q + k))))) (by
            funext i9
            by_cases e210 : i9 = 210
            · subst e210; rfl
            by_cases e211 : i9 = 211
            · subst e211; rfl
            by_cases e200 : i9 = 200
            · subst e200; rfl
            simp only [wdH, j_set, j_beq_f e210, j_beq_f e211, j_beq_f e200, cond_false]) ?_
          refine j_goto (tgt := 21) dX4_word_76 (by decide) ?_
          refine j_wide (c' := 2 + gi) (s' := 20 + sN gi) (by omega) (by omega) ?_
          exact ih (k + 1, gi, upd f k (nI (T (q + k))), ρ, nx1) ⟨by show q + (k + 1) ≤ n; omega, by show we T n (q + (k + 1)) = _; rw [← hwe, hgo]; rfl, hkl, hgi, hbf.upd (by omega), upd_lt hf rfl (by omega) (fun _ _ => rfl), hρ⟩ (by show n - (q + (k + 1)) < n - (q + k); omega)
        · skip
          have hke : k = cpN gi := by omega
          obtain ⟨ρ2, hρ2, q212⟩ : ∃ ρ2 : Nat → Nat, (∀ i, i ≠ 212 → ρ2 i = ρ i) ∧ ρ2 212 = nx1 := ⟨va_up ρ 212 nx1, fun i hi => va_up_ne _ _ hi, va_up_self _ _ _⟩
          have h212 : (j_set h 200 (rdC (ρ2 5) n td (q + k) q)) 212 = none := by rw [j_set_ne (by decide)]; exact hsc 212 (by decide) (by decide)
          refine j_sc (r' := ρ2) (fun i e hi => hρ2 i (fun z => by
            rw [z] at hi
            unfold wdH at hi
            rw [j_set_ne (by decide), j_set_ne (by decide), j_set_ne (by decide), hsc 212 (by decide) (by decide)] at hi
            cases hi)) ?_
          refine j_re (L' := [some (.ref (ρ2 200)), some (.ref (ρ2 210)), some (.int c9)]) (h' := wdH dT h n td q ρ2 (cpN gi) gi f) (by rw [hρ2 200 (by decide), hρ2 210 (by decide)]) rfl (by unfold wdH; rw [hρ2 5 (by decide), hρ2 211 (by decide), hke]) ?_
          have h5ρ : wdH dT h n td q ρ2 (cpN gi) gi f 5 = some (txC dT dTx) := by unfold wdH; rw [j_set_ne (by decide), j_set_ne (by decide), j_set_ne (by decide)]; exact h5
          have h200ρ : wdH dT h n td q ρ2 (cpN gi) gi f 200 = some (rdC (ρ2 5) n td (q + cpN gi) q) := by unfold wdH; rw [j_set_ne (by decide), j_set_ne (by decide)]; exact j_set_self
          rw [hke] at h212
          have hgi5 : gi ≤ 4 := cs3 (by omega)
          have cs5 := (cs_le (show gi + 1 ≤ 5 by omega)).2.1
          refine j_aload_n dX4_word_51 rfl ?_
          refine j_aload_n dX4_word_52 rfl ?_
          refine j_get 0 dX4_word_53 h200ρ in_X4 rfl (by decide) q238 rfl ?_
          refine j_aload_n dX4_word_56 rfl ?_
          refine j_get 3 dX4_word_57 h200ρ in_X4 rfl (by decide) q241 rfl ?_
          refine j_bald 1 (q + k) dX4_word_60 h5ρ rfl (by rw [hke]) (by omega) (by decide) ?_
          refine j_eqi (show _ = sbI (T (q + k)) from e1) ?_
          refine j_i2c dX4_word_61 ?_
          refine j_eqi (show _ = nI (T (q + k)) by rw [hsbe]; exact i2c_lo _ (by omega)) ?_
          refine j_callV (b_ap1 (T (q + k)) (by omega) (by omega) hbf h212 q212) jq_n.isR dX4_word_62 pmJ1_append q302 q303 q304 (by unfold wdH; exact j_set_self) rfl rfl rfl ⟨Nat.le_of_ble_eq_true rfl, Nat.le_of_ble_eq_true rfl⟩ ⟨(by show 2 + gi + 0 + 1 ≤ 10; omega), (by show 20 + sN gi + 0 + (2 * cpN gi + 2) ≤ 1600; omega)⟩ rfl (Nat.le_of_ble_eq_true rfl) ?_
          rintro v9 r9 h9 nx9 ⟨e1, e2, e3, e4⟩
          obtain rfl := e4.symm
          have hr9 : ∀ i, i ≠ 211 → r9 i = ρ2 i := fun i hi => by rw [e2]; exact va_up_ne _ _ hi
          rw [← e2] at e3 e1
          obtain rfl := e3.symm
          cases e1
          refine j_re (L' := [some (.ref (r9 200)), some (.ref (r9 210)), some (.int c9)]) (by rw [hr9 200 (by decide), hr9 210 (by decide)]) rfl rfl ?_
          refine j_pop dX4_word_65 rfl ?_
          refine j_aload_n dX4_word_66 rfl ?_
          refine j_dup dX4_word_67 rfl ?_
          refine j_get 3 dX4_word_68 (by rw [j_set_ne (by decide), j_set_ne (by decide)]; exact j_set_self) in_X4 rfl (by decide) q241 rfl ?_
          refine j_iconst (v := 1) dX4_word_71 (by decide) ?_
          refine j_iadd dX4_word_72 ?_
          refine j_eqi (show _ = nI (q + cpN gi + 1) from nI_1 _) ?_
          refine j_put 3 dX4_word_73 (by rw [j_set_ne (by decide), j_set_ne (by decide)]; exact j_set_self) in_X4 tyX4_ok nmX4 rfl (by decide) q241 rfl rfl rfl (by first | decide | simp) ?_
          refine j_re rfl rfl (h' := wdH dT h n td q r9 (cpN gi + 1) (gi + 1) (upd (va_cpy f (fun _ => 0) 0 0 (cpN gi)) (cpN gi) (nI (T (q + k))))) (by rw [← hr9 5 (by decide)]; exact (by
            funext i9
            by_cases e210 : i9 = 210
            · subst e210; rfl
            by_cases e211 : i9 = 211
            · subst e211; rfl
            by_cases e200 : i9 = 200
            · subst e200; rfl
            simp only [wdH, j_set, j_beq_f e210, j_beq_f e211, j_beq_f e200, cond_false])) ?_
          refine j_goto (tgt := 21) dX4_word_76 (by decide) ?_
          refine j_wide (c' := 2 + (gi + 1)) (s' := 20 + sN (gi + 1)) (by omega) (by omega) ?_
          exact ih (cpN gi + 1, gi + 1, upd (va_cpy f (fun _ => 0) 0 0 (cpN gi)) (cpN gi) (nI (T (q + k))), r9, nx1 + 1) ⟨by show q + (cpN gi + 1) ≤ n; omega, by show we T n (q + (cpN gi + 1)) = _; rw [← hwe, hgo, ← hke]; rfl, by show cpN gi + 1 ≤ 2 * cpN gi + 2; omega, by show gi + 1 ≤ 5; omega, (hbf.cpy).upd (by omega), by rw [hke]; exact upd_lt (by rw [← hke]; exact hf) rfl (by rw [← hke]; omega) (fun j hj => cpy_lo hj), fun i hi => by unfold kpI at hi; show r9 i = r i; rw [hr9 i (by omega), hρ2 i (by omega)]; exact hρ i hi⟩ (by show n - (q + (cpN gi + 1)) < n - (q + k); omega)
