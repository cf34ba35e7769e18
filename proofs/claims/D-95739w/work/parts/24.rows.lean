set_option maxRecDepth 100000
def fb_sm (f : Nat → Nat) : Nat → Nat
  | 0 => 0
  | n + 1 => fb_sm f n + f n
theorem fb_sm_succ (f : Nat → Nat) (n : Nat) : fb_sm f (n + 1) = fb_sm f n + f n := rfl
theorem fb_sm_cong {f g : Nat → Nat} : ∀ {n : Nat}, (∀ k, k < n → f k = g k) → fb_sm f n = fb_sm g n
  | 0, _ => rfl
  | n + 1, h => by rw [fb_sm_succ, fb_sm_succ, fb_sm_cong (fun k hk => h k (by omega)), h n (by omega)]
theorem fb_sm_out (f : Nat → Nat) (v : Nat) {i n : Nat} (h : n ≤ i) : fb_sm (fun k => if k = i then v else f k) n = fb_sm f n :=
  fb_sm_cong fun k hk => if_neg (by omega)
theorem fb_sm_upd (f : Nat → Nat) (v : Nat) {i : Nat} : ∀ {n : Nat}, i < n → fb_sm (fun k => if k = i then v else f k) n + f i = fb_sm f n + v
  | 0, h => absurd h (Nat.not_lt_zero i)
  | n + 1, h => by
    rw [fb_sm_succ, fb_sm_succ]
    rcases Nat.lt_or_ge i n with q | q
    · have := fb_sm_upd f v q
      have e : (if n = i then v else f n) = f n := if_neg (by omega)
      rw [e]
      omega
    · have e : i = n := by omega
      subst e
      rw [fb_sm_out f v (Nat.le_refl _)]
      simp only [if_true]
      omega
theorem fb_sm_add (f g : Nat → Nat) : ∀ n, fb_sm (fun k => f k + g k) n = fb_sm f n + fb_sm g n
  | 0 => rfl
  | n + 1 => by
    have h := fb_sm_add f g n
    rw [fb_sm_succ, fb_sm_succ, fb_sm_succ, h]
    omega
theorem fb_sm_le {f g : Nat → Nat} : ∀ {n : Nat}, (∀ k, k < n → f k ≤ g k) → fb_sm f n ≤ fb_sm g n
  | 0, _ => Nat.le_refl _
  | n + 1, h => by
    have h1 := fb_sm_le (n := n) (f := f) (g := g) (fun k hk => h k (by omega))
    have h2 := h n (by omega)
    rw [fb_sm_succ, fb_sm_succ]
    omega
theorem fb_sm_const (c : Nat) : ∀ n, fb_sm (fun _ => c) n = n * c
  | 0 => by rw [Nat.zero_mul]; rfl
  | n + 1 => by rw [fb_sm_succ, fb_sm_const c n, Nat.succ_mul]
theorem fb_sm_bound {f : Nat → Nat} {c n : Nat} (h : ∀ k, k < n → f k ≤ c) : fb_sm f n ≤ n * c := by
  rw [← fb_sm_const c n]
  exact fb_sm_le h
theorem fb_sm_mono (f : Nat → Nat) (m : Nat) : ∀ n, fb_sm f m ≤ fb_sm f (m + n)
  | 0 => Nat.le_refl _
  | n + 1 => by
    have h := fb_sm_mono f m n
    show fb_sm f m ≤ fb_sm f (m + n + 1)
    rw [fb_sm_succ]
    omega
theorem fb_sm_part (f : Nat → Nat) {i n : Nat} (h : i < n) : fb_sm f i + f i ≤ fb_sm f n := by
  have := fb_sm_mono f (i + 1) (n - (i + 1))
  rw [fb_sm_succ, show i + 1 + (n - (i + 1)) = n by omega] at this
  exact this
theorem fb_sm_split (f : Nat → Nat) (m : Nat) : ∀ n, fb_sm f (m + n) = fb_sm f m + fb_sm (fun k => f (m + k)) n
  | 0 => rfl
  | n + 1 => by
    have h := fb_sm_split f m n
    show fb_sm f (m + n + 1) = _
    rw [fb_sm_succ, fb_sm_succ, h, Nat.add_assoc]
theorem fb_sm_zero {f : Nat → Nat} {n : Nat} (h : fb_sm f n = 0) : ∀ k, k < n → f k = 0 := fun k hk => by
  have := fb_sm_part f hk
  omega
/-- how many rows of n strokes (one key left out) from a end with v shown -/
def cntR (stp : Nat → A4 → A4) (K v : Nat) (wo : Int32) : Nat → A4 → Nat
  | 0, a => if a.2.2.1 = v then 1 else 0
  | n + 1, a => fb_sm (fun k => if nI k = wo then 0 else cntR stp K v wo n (stp k a)) K
/-- a weight's sum over the strokes from s -/
def kS (sc : Nat → Nat → Nat) (wo : Int32) (c : Nat → Nat) (k s : Nat) : Nat := fb_sm (fun j => if nI j = wo then 0 else c (sc j s)) k
theorem sm_upd {t c : Nat → Nat} {N q x : Nat} (h : q < N) : fb_sm (fun s => va_up t q (t q + x) s * c s) N = fb_sm (fun s => t s * c s) N + x * c q := by
  have e : (fun s => va_up t q (t q + x) s * c s) = (fun s => if s = q then (t q + x) * c q else t s * c s) := by
    funext s
    by_cases hs : s = q
    · subst hs; rw [va_up_self, if_pos rfl]
    · rw [va_up_ne _ _ hs, if_neg hs]
  have h1 : fb_sm (fun s => if s = q then (t q + x) * c q else t s * c s) N + t q * c q = fb_sm (fun s => t s * c s) N + (t q + x) * c q := fb_sm_upd (fun s => t s * c s) ((t q + x) * c q) h
  rw [e]
  rw [Nat.add_mul] at h1 ⊢
  omega
theorem sm_one {w : Nat → Nat} {N s : Nat} (h : s < N) : w s ≤ fb_sm w N := by have := fb_sm_part w h; omega
theorem kS_le {sc : Nat → Nat → Nat} {wo : Int32} {K s : Nat} : kS sc wo (fun _ => 1) K s ≤ K := by
  have := fb_sm_bound (f := fun j => if nI j = wo then 0 else 1) (c := 1) (n := K) (fun k _ => by split <;> omega)
  show fb_sm (fun j => if nI j = wo then 0 else 1) K ≤ K
  omega
theorem cnt_next {stp : Nat → A4 → A4} {K v n N : Nat} {wo : Int32} {sc : Nat → Nat → Nat} {dc : Nat → A4} {w t : Nat → Nat} (hsc : ∀ k s, k < K → s < N → dc (sc k s) = stp k (dc s)) (h : ∀ c : Nat → Nat, fb_sm (fun s => t s * c s) N = fb_sm (fun s => w s * kS sc wo c K s) N) : fb_sm (fun s => t s * cntR stp K v wo n (dc s)) N = fb_sm (fun s => w s * cntR stp K v wo (n + 1) (dc s)) N := by
  rw [h (fun s => cntR stp K v wo n (dc s))]
  apply fb_sm_cong
  intro s hs
  congr 1
  unfold kS
  rw [cntR]
  apply fb_sm_cong
  intro k hk
  show (if nI k = wo then 0 else cntR stp K v wo n (dc (sc k s))) = _
  rw [hsc k s hk hs]
theorem tot_next {K N : Nat} {wo : Int32} {sc : Nat → Nat → Nat} {w t : Nat → Nat} (hK : K ≤ 8) (h : ∀ c : Nat → Nat, fb_sm (fun s => t s * c s) N = fb_sm (fun s => w s * kS sc wo c K s) N) : fb_sm t N ≤ 8 * fb_sm w N := by
  have h1 := h (fun _ => 1)
  simp only [Nat.mul_one] at h1
  have e : fb_sm (fun s => t s) N = fb_sm t N := rfl
  rw [e] at h1
  rw [h1]
  have h2 : fb_sm (fun s => w s * kS sc wo (fun _ => 1) K s) N ≤ fb_sm (fun s => w s * 8) N := fb_sm_le (fun s _ => Nat.mul_le_mul_left _ (Nat.le_trans kS_le hK))
  have h3 : ∀ n, fb_sm (fun s => w s * 8) n = 8 * fb_sm w n := by
    intro n
    induction n with
    | zero => rfl
    | succ n ih => rw [fb_sm_succ, fb_sm_succ, ih]; omega
  rw [h3] at h2
  exact h2
theorem sm_ind {N q : Nat} {c : Nat → Nat} (h : q < N) : fb_sm (fun s => va_up (fun _ => 0) q 1 s * c s) N = c q := by
  have h1 := sm_upd (t := fun _ => 0) (c := c) (x := 1) h
  have h2 : fb_sm (fun s => 0 * c s) N = 0 := by
    have e := fb_sm_const 0 N
    rw [Nat.mul_zero] at e
    exact (fb_sm_cong (fun k _ => Nat.zero_mul _)).trans e
  simp only [Nat.zero_add, Nat.one_mul] at h1
  rw [h2] at h1
  omega
theorem p8_le {i : Nat} (h : i ≤ 8) : 8 ^ i ≤ 16777216 := Nat.le_trans (Nat.pow_le_pow_right (by decide) h) (by decide)

set_option maxHeartbeats 4000000 in
theorem f_rowsTo {l : Launch} {D : va_G} {dT : Nat → ClassId} {H0 : Heap} {r : Nat → Nat} {nx : Nat} {g : j_H} {F : Nat → Nat} {V : Nat → Nat → Int32} {nk : Nat} (h60 : g 60 = some (rcell (.ref (r 61)) (r 62) nk)) {kd bs fg m : Nat} {ks : Nat → KY} (hK : fkK r dT g kd bs fg m nk ks) (n v : Nat) (wo : Int32) (hn : n ≤ 8) (hv : v < m) (hnk : nk ≤ 8) (hs : F 0 < 8 * m * m) : MC (gG l D dT H0) yX0_rowsTo cX0_rowsTo 8 (some .int) 7 0 0 [.ref (r 0), .int (nI n), .int (nI v), .int wo] r (fkS r dT g F V) nx (jq_s (nI (cntR (fun k a => stk kd bs m (ks k) a) nk v wo n (decA m (F 0)))) r dT g F V nx) := by
  obtain ⟨h61, hD, hkn, ka, h62, hks⟩ := id hK
  have hm := hD.pos
  have hm2 := hD.le
  have hmm := mm_le hm2
  refine MC.ofJ [some (.ref (r 0)), some (.int (nI n)), some (.int (nI v)), some (.int wo), none, none, none, none] rfl (Nat.le_of_ble_eq_true rfl) (by decide) ?_
  refine j_re rfl rfl (h' := fkS r dT g F (vo V [(13, V 13), (14, V 14)])) (by rw [vo_same _ (by simp)]) ?_
  refine j_aload_n dX0_rowsTo_0 rfl ?_
  refine j_get 15 dX0_rowsTo_1 (by first | rfl | assumption) in_X0 rfl (by decide) q168 rfl ?_
  refine j_iconst (v := 0) dX0_rowsTo_4 (by decide) ?_
  refine j_aload_n dX0_rowsTo_5 rfl ?_
  refine j_get 0 dX0_rowsTo_6 (by first | rfl | assumption) in_X0 rfl (by decide) q153 rfl ?_
  refine j_getN 0 dX0_rowsTo_9 (by first | rfl | assumption) in_X1 rfl (by decide) (fun _ hs => hs.1 _ qn104) rfl ?_
  refine j_callVi (c_states 61 kd bs fg m (by exact h61) hm hm2) dX0_rowsTo_12 pmX6_states q928 q929 q930 (by first | rfl | assumption) rfl rfl rfl ⟨Nat.le_of_ble_eq_true rfl, Nat.le_of_ble_eq_true rfl⟩ ⟨Nat.le_of_ble_eq_true rfl, Nat.le_of_ble_eq_true rfl⟩ rfl (Nat.le_of_ble_eq_true rfl) ?_
  refine j_iconst (v := 0) dX0_rowsTo_15 (by decide) ?_
  refine j_callSv (c_fill 13 80000 0 (8 * m * m) 0 (V 13) (by exact rfl) (by omega) hmm (by decide)) dX0_rowsTo_16 pmJ6_fill q932 q933 rfl ⟨Nat.le_of_ble_eq_true rfl, Nat.le_of_ble_eq_true rfl⟩ ⟨Nat.le_of_ble_eq_true rfl, Nat.le_of_ble_eq_true rfl⟩ rfl (Nat.le_of_ble_eq_true rfl) ?_
  refine j_o1 ?_
  refine j_fkW (f := fun j => if 0 ≤ j ∧ j < 8 * m * m then 0 else V 13 j) (by decide) rfl ?_
  refine j_aload_n dX0_rowsTo_19 rfl ?_
  refine j_get 15 dX0_rowsTo_20 (by first | rfl | assumption) in_X0 rfl (by decide) q168 rfl ?_
  refine j_aload_n dX0_rowsTo_23 rfl ?_
  refine j_get 1 dX0_rowsTo_24 (by first | rfl | assumption) in_X0 rfl (by decide) q154 rfl ?_
  refine j_getN 0 dX0_rowsTo_27 (by first | rfl | assumption) in_X2 rfl (by decide) (fun _ hs => hs.1 _ qn125) rfl ?_
  refine j_iconst (v := 1) dX0_rowsTo_30 (by decide) ?_
  refine j_iast 0 (F 0) dX0_rowsTo_31 (by first | rfl | assumption) rfl rfl (by show F 0 < 80000; omega) (by decide) ?_
  refine j_fkW (f := _) (by decide) rfl ?_
  refine j_iconst (v := 0) dX0_rowsTo_32 (by decide) ?_
  refine j_istore dX0_rowsTo_33 (by decide) rfl ?_
  refine j_re (L' := [some (.ref (r 0)), some (.int (nI n)), some (.int (nI v)), some (.int wo), some (.int (nI 0)), none, none, none]) rfl rfl rfl ?_
  refine j_lp4 (fun (i : Nat) (w : Nat → Nat) (wa th : Nat → Int32) => fkS r dT g F (vo V [(13, wa), (14, th)])) (fun i _ _ _ => [some (.ref (r 0)), some (.int (nI n)), some (.int (nI v)), some (.int wo), some (.int (nI i)), none, none, none]) (fun i w wa th => i ≤ n ∧ (∀ s, s < 8 * m * m → wa s = nI (w s)) ∧ fb_sm w (8 * m * m) ≤ 8 ^ i ∧ fb_sm (fun s => w s * cntR (fun k a => stk kd bs m (ks k) a) nk v wo (n - i) (decA m s)) (8 * m * m) = cntR (fun k a => stk kd bs m (ks k) a) nk v wo n (decA m (F 0))) (fun i _ _ _ => n - i) ?_ 0 (va_up (fun _ => 0) (F 0) 1) _ _ ⟨Nat.zero_le _, ?_, ?_, sm_ind hs⟩
  rotate_left
  · intro s hs1
    by_cases hsq : s = F 0
    · subst hsq; rw [va_up_self]; exact pk_us
    · rw [va_up_ne _ _ hsq]
      exact (pk_un hsq).trans (if_pos ⟨Nat.zero_le _, hs1⟩)
  · have := sm_ind (c := fun _ => 1) hs
    simp only [Nat.mul_one] at this
    exact Nat.le_of_eq this
  intro i w wa th ⟨hin, hwa, htot, hcnt⟩ ih
  have hwb : ∀ s, s < 8 * m * m → w s < 2 ^ 31 := fun s hs1 => by
    have h1 := sm_one (w := w) hs1
    have h2 := p8_le (i := i) (by omega)
    omega
  refine j_iload dX0_rowsTo_35 rfl ?_
  refine j_iload_n dX0_rowsTo_37 rfl ?_
  refine j_icmp_ge (tgt := 188) dX0_rowsTo_38 (by decide) (fun c38 => ?_) (fun c38 => ?_)
  · skip
    have hni : i = n := by
      have := (nI_leI (by omega) (by omega)).mp c38
      omega
    rw [hni, Nat.sub_self] at hcnt
    refine j_iconst (v := 0) dX0_rowsTo_188 (by decide) ?_
    refine j_istore dX0_rowsTo_189 (by decide) rfl ?_
    refine j_iconst (v := 0) dX0_rowsTo_191 (by decide) ?_
    refine j_istore dX0_rowsTo_192 (by decide) rfl ?_
    refine j_less (L' := [some (.ref (r 0)), some (.int (nI n)), some (.int (nI v)), some (.int wo), some (.int (nI 0)), some (.int (nI 0)), none, none]) ⟨Or.inr rfl, Or.inr rfl, Or.inr rfl, Or.inr rfl, Or.inr rfl, Or.inr rfl, Or.inl rfl, Or.inl rfl, trivial⟩ ?_
    refine j_lp1 (fun (s : Nat) => fkS r dT g F (vo V [(13, wa), (14, th)])) (fun s => [some (.ref (r 0)), some (.int (nI n)), some (.int (nI v)), some (.int wo), some (.int (nI (fb_sm (fun q => if sS m q = v then w q else 0) s))), some (.int (nI s)), none, none]) (fun s => s ≤ 8 * m * m) (fun s => 8 * m * m - s) ?_ 0 (Nat.zero_le _)
    clear ih
    intro s hsN ih
    refine j_iload dX0_rowsTo_194 rfl ?_
    refine j_aload_n dX0_rowsTo_196 rfl ?_
    refine j_get 0 dX0_rowsTo_197 (by first | rfl | assumption) in_X0 rfl (by decide) q153 rfl ?_
    refine j_getN 0 dX0_rowsTo_200 (by first | rfl | assumption) in_X1 rfl (by decide) (fun _ hs => hs.1 _ qn104) rfl ?_
    refine j_callVi (c_states 61 kd bs fg m (by exact h61) hm hm2) dX0_rowsTo_203 pmX6_states q928 q929 q930 (by first | rfl | assumption) rfl rfl rfl ⟨Nat.le_of_ble_eq_true rfl, Nat.le_of_ble_eq_true rfl⟩ ⟨Nat.le_of_ble_eq_true rfl, Nat.le_of_ble_eq_true rfl⟩ rfl (Nat.le_of_ble_eq_true rfl) ?_
    refine j_icmp_ge (tgt := 241) dX0_rowsTo_206 (by decide) (fun c206 => ?_) (fun c206 => ?_)
    · skip
      have hsN2 : s = 8 * m * m := by
        have := (nI_leI (by omega) (by omega)).mp c206
        omega
      subst hsN2
      refine j_iload dX0_rowsTo_241 rfl ?_
      refine j_iret dX0_rowsTo_243 rfl rfl (Nat.le_refl _) (Nat.le_refl _) ?_
      refine js_i ?_ (vo_sc (by intro q hq; simp at hq; rcases hq with rfl | rfl <;> exact Or.inl ⟨Nat.le_of_ble_eq_true rfl, Nat.le_of_ble_eq_true rfl⟩))
      rw [← hcnt]
      congr 1
      apply fb_sm_cong
      intro q hq
      show (if sS m q = v then w q else 0) = w q * (if sS m q = v then 1 else 0)
      split
      · rw [Nat.mul_one]
      · rw [Nat.mul_zero]
    · skip
      have hsN2 : s < 8 * m * m := Nat.lt_of_not_le (fun q => c206 (nI_le q (by omega)))
      have hsl : sS m s < m := Nat.mod_lt _ hm
      refine j_iload dX0_rowsTo_209 rfl ?_
      refine j_join (tgt := 232) (fun x => x = nI (if sS m s = v then w s else 0)) (fun v211 hv211 => ?_) (fun kj211 => ?_)
      · skip
        refine j_iadd dX0_rowsTo_232 ?_
        subst hv211
        refine j_eqi (nI_add _ _) ?_
        refine j_istore dX0_rowsTo_233 (by decide) rfl ?_
        refine j_iinc dX0_rowsTo_235 rfl (by decide) rfl ?_
        refine j_goto (tgt := 194) dX0_rowsTo_238 (by decide) ?_
        refine j_less (L' := [some (.ref (r 0)), some (.int (nI n)), some (.int (nI v)), some (.int wo), some (.int (nI (fb_sm (fun q => if sS m q = v then w q else 0) (s + 1)))), some (.int (nI (s + 1))), none, none]) ⟨Or.inr rfl, Or.inr rfl, Or.inr rfl, Or.inr rfl, Or.inr rfl, Or.inr (by rw [← nI_inc]), Or.inl rfl, Or.inl rfl, trivial⟩ ?_
        exact ih (s + 1) (by omega) (by omega)
      · skip
        refine j_aload_n dX0_rowsTo_211 rfl ?_
        refine j_iload dX0_rowsTo_212 rfl ?_
        refine j_callVi (f_shown1 h60 h61 hm hm2 s (by omega)) dX0_rowsTo_214 pmX0_shown q771 q773 qs14 (by first | rfl | assumption) rfl rfl rfl ⟨Nat.le_of_ble_eq_true rfl, Nat.le_of_ble_eq_true rfl⟩ ⟨Nat.le_of_ble_eq_true rfl, Nat.le_of_ble_eq_true rfl⟩ rfl (Nat.le_of_ble_eq_true rfl) ?_
        refine j_iload_n dX0_rowsTo_217 rfl ?_
        refine j_icmp_ne (tgt := 231) dX0_rowsTo_218 (by decide) (fun c218 => ?_) (fun c218 => ?_)
        · skip
          have c218 : ¬ sS m s = v := fun q => c218 (by rw [q])
          refine j_iconst (v := 0) dX0_rowsTo_231 (by decide) ?_
          exact kj211 _ (by first | exact congrArg nI (if_pos c218).symm | exact congrArg nI (if_neg c218).symm)
        · skip
          have c218 : sS m s = v := (nI_eq (by omega) (by omega)).mp c218
          refine j_aload_n dX0_rowsTo_221 rfl ?_
          refine j_get 15 dX0_rowsTo_222 (by first | rfl | assumption) in_X0 rfl (by decide) q168 rfl ?_
          refine j_iload dX0_rowsTo_225 rfl ?_
          refine j_iald 0 s dX0_rowsTo_227 (by first | rfl | assumption) rfl rfl (by show s < 80000; omega) (by decide) ?_
          refine j_eqi (show _ = nI (w s) from hwa s hsN2) ?_
          refine j_goto (tgt := 232) dX0_rowsTo_228 (by decide) ?_
          exact kj211 _ (by first | exact congrArg nI (if_pos c218).symm | exact congrArg nI (if_neg c218).symm)
  · skip
    have hni : i < n := Nat.lt_of_not_le (fun q => c38 (nI_le q (by omega)))
    refine j_aload_n dX0_rowsTo_41 rfl ?_
    refine j_get 16 dX0_rowsTo_42 (by first | rfl | assumption) in_X0 rfl (by decide) q169 rfl ?_
    refine j_iconst (v := 0) dX0_rowsTo_45 (by decide) ?_
    refine j_aload_n dX0_rowsTo_46 rfl ?_
    refine j_get 0 dX0_rowsTo_47 (by first | rfl | assumption) in_X0 rfl (by decide) q153 rfl ?_
    refine j_getN 0 dX0_rowsTo_50 (by first | rfl | assumption) in_X1 rfl (by decide) (fun _ hs => hs.1 _ qn104) rfl ?_
    refine j_callVi (c_states 61 kd bs fg m (by exact h61) hm hm2) dX0_rowsTo_53 pmX6_states q928 q929 q930 (by first | rfl | assumption) rfl rfl rfl ⟨Nat.le_of_ble_eq_true rfl, Nat.le_of_ble_eq_true rfl⟩ ⟨Nat.le_of_ble_eq_true rfl, Nat.le_of_ble_eq_true rfl⟩ rfl (Nat.le_of_ble_eq_true rfl) ?_
    refine j_iconst (v := 0) dX0_rowsTo_56 (by decide) ?_
    refine j_callSv (c_fill 14 80000 0 (8 * m * m) 0 th (by exact rfl) (by omega) hmm (by decide)) dX0_rowsTo_57 pmJ6_fill q932 q933 rfl ⟨Nat.le_of_ble_eq_true rfl, Nat.le_of_ble_eq_true rfl⟩ ⟨Nat.le_of_ble_eq_true rfl, Nat.le_of_ble_eq_true rfl⟩ rfl (Nat.le_of_ble_eq_true rfl) ?_
    refine j_o1 ?_
    refine j_fkW (f := fun j => if 0 ≤ j ∧ j < 8 * m * m then 0 else th j) (by decide) rfl ?_
    refine j_iconst (v := 0) dX0_rowsTo_60 (by decide) ?_
    refine j_istore dX0_rowsTo_61 (by decide) rfl ?_
    refine j_less (L' := [some (.ref (r 0)), some (.int (nI n)), some (.int (nI v)), some (.int wo), some (.int (nI i)), some (.int (nI 0)), none, none]) ⟨Or.inr rfl, Or.inr rfl, Or.inr rfl, Or.inr rfl, Or.inr rfl, Or.inr rfl, Or.inl rfl, Or.inl rfl, trivial⟩ ?_
    refine j_lp3 (fun (s : Nat) (t : Nat → Nat) (th : Nat → Int32) => fkS r dT g F (vo V [(13, wa), (14, th)])) (fun s _ _ => [some (.ref (r 0)), some (.int (nI n)), some (.int (nI v)), some (.int wo), some (.int (nI i)), some (.int (nI s)), none, none]) (fun s t th => s ≤ 8 * m * m ∧ (∀ q, q < 8 * m * m → th q = nI (t q)) ∧ ∀ c : Nat → Nat, fb_sm (fun q => t q * c q) (8 * m * m) = fb_sm (fun q => w q * kS (fun k s => strk kd bs m (ks k) s) wo c nk q) s) (fun s _ _ => 8 * m * m - s) ?_ 0 (fun _ => 0) _ ⟨Nat.zero_le _, fun q hq => if_pos ⟨Nat.zero_le _, hq⟩, fun c => ?_⟩
    rotate_left
    · have h0 := fb_sm_const 0 (8 * m * m)
      rw [Nat.mul_zero] at h0
      exact (fb_sm_cong (fun k _ => Nat.zero_mul _)).trans h0
    clear th
    intro s t th ⟨hsN, hth, hlin⟩ ih2
    refine j_iload dX0_rowsTo_63 rfl ?_
    refine j_aload_n dX0_rowsTo_65 rfl ?_
    refine j_get 0 dX0_rowsTo_66 (by first | rfl | assumption) in_X0 rfl (by decide) q153 rfl ?_
    refine j_getN 0 dX0_rowsTo_69 (by first | rfl | assumption) in_X1 rfl (by decide) (fun _ hs => hs.1 _ qn104) rfl ?_
    refine j_callVi (c_states 61 kd bs fg m (by exact h61) hm hm2) dX0_rowsTo_72 pmX6_states q928 q929 q930 (by first | rfl | assumption) rfl rfl rfl ⟨Nat.le_of_ble_eq_true rfl, Nat.le_of_ble_eq_true rfl⟩ ⟨Nat.le_of_ble_eq_true rfl, Nat.le_of_ble_eq_true rfl⟩ rfl (Nat.le_of_ble_eq_true rfl) ?_
    refine j_icmp_ge (tgt := 159) dX0_rowsTo_75 (by decide) (fun c75 => ?_) (fun c75 => ?_)
    · skip
      have hsN2 : s = 8 * m * m := by
        have := (nI_leI (by omega) (by omega)).mp c75
        omega
      subst hsN2
      refine j_aload_n dX0_rowsTo_159 rfl ?_
      refine j_get 16 dX0_rowsTo_160 (by first | rfl | assumption) in_X0 rfl (by decide) q169 rfl ?_
      refine j_iconst (v := 0) dX0_rowsTo_163 (by decide) ?_
      refine j_aload_n dX0_rowsTo_164 rfl ?_
      refine j_get 15 dX0_rowsTo_165 (by first | rfl | assumption) in_X0 rfl (by decide) q168 rfl ?_
      refine j_iconst (v := 0) dX0_rowsTo_168 (by decide) ?_
      refine j_aload_n dX0_rowsTo_169 rfl ?_
      refine j_get 0 dX0_rowsTo_170 (by first | rfl | assumption) in_X0 rfl (by decide) q153 rfl ?_
      refine j_getN 0 dX0_rowsTo_173 (by first | rfl | assumption) in_X1 rfl (by decide) (fun _ hs => hs.1 _ qn104) rfl ?_
      refine j_callVi (c_states 61 kd bs fg m (by exact h61) hm hm2) dX0_rowsTo_176 pmX6_states q928 q929 q930 (by first | rfl | assumption) rfl rfl rfl ⟨Nat.le_of_ble_eq_true rfl, Nat.le_of_ble_eq_true rfl⟩ ⟨Nat.le_of_ble_eq_true rfl, Nat.le_of_ble_eq_true rfl⟩ rfl (Nat.le_of_ble_eq_true rfl) ?_
      refine j_copy (i0 := 14) (i1 := 13) (sp := 0) (dp := 0) (n := 8 * m * m) (n0 := 80000) (n1 := 80000) (t0 := 0) (ty := .int) dX0_rowsTo_179 q1024 rfl rfl rfl rfl rfl rfl rfl rfl (by omega) (by omega) (by decide) (by decide) (fun i _ => rfl) ⟨Nat.le_of_ble_eq_true rfl, Nat.le_of_ble_eq_true rfl⟩ ?_
      refine j_fkW (f := _) (by decide) rfl ?_
      refine j_iinc dX0_rowsTo_182 rfl (by decide) rfl ?_
      refine j_goto (tgt := 35) dX0_rowsTo_185 (by decide) ?_
      refine j_less (L' := [some (.ref (r 0)), some (.int (nI n)), some (.int (nI v)), some (.int wo), some (.int (nI (i + 1))), none, none, none]) ⟨Or.inr rfl, Or.inr rfl, Or.inr rfl, Or.inr rfl, Or.inr (by rw [← nI_inc]), Or.inl rfl, Or.inl rfl, Or.inl rfl, trivial⟩ ?_
      refine ih (i + 1) t _ th ⟨by omega, fun q hq => ?_, ?_, ?_⟩ (by omega)
      · exact (pk_cpy_in (Nat.zero_le _) (by omega)).trans (by rw [Nat.zero_add, Nat.sub_zero]; exact hth q hq)
      · have h1 := tot_next hnk hlin
        rw [Nat.pow_succ]
        omega
      · rw [cnt_next (dc := decA m) (fun k s hk hs => by show decA m (strk kd bs m (ks k) s) = _; unfold strk; rw [decA_encA (stk_ok hD (hks k hk).2.2 (decA_ok hm hs))]) hlin, show n - (i + 1) + 1 = n - i by omega]
        exact hcnt
    · skip
      have hsN2 : s < 8 * m * m := Nat.lt_of_not_le (fun q => c75 (nI_le q (by omega)))
      refine j_iconst (v := 0) dX0_rowsTo_78 (by decide) ?_
      refine j_istore dX0_rowsTo_79 (by decide) rfl ?_
      refine j_less (L' := [some (.ref (r 0)), some (.int (nI n)), some (.int (nI v)), some (.int wo), some (.int (nI i)), some (.int (nI s)), some (.int (nI 0)), none]) ⟨Or.inr rfl, Or.inr rfl, Or.inr rfl, Or.inr rfl, Or.inr rfl, Or.inr rfl, Or.inr rfl, Or.inl rfl, trivial⟩ ?_
      refine j_lp3 (fun (k : Nat) (t : Nat → Nat) (th : Nat → Int32) => fkS r dT g F (vo V [(13, wa), (14, th)])) (fun k _ _ => [some (.ref (r 0)), some (.int (nI n)), some (.int (nI v)), some (.int wo), some (.int (nI i)), some (.int (nI s)), some (.int (nI k)), none]) (fun k t th => k ≤ nk ∧ (∀ q, q < 8 * m * m → th q = nI (t q)) ∧ ∀ c : Nat → Nat, fb_sm (fun q => t q * c q) (8 * m * m) = fb_sm (fun q => w q * kS (fun k s => strk kd bs m (ks k) s) wo c nk q) s + w s * kS (fun k s => strk kd bs m (ks k) s) wo c k s) (fun k _ _ => nk - k) ?_ 0 t th ⟨Nat.zero_le _, hth, fun c => by rw [hlin c]; rfl⟩
      clear hlin hth th t
      intro k t th ⟨hkK, hth, hlin⟩ ih3
      refine j_iload dX0_rowsTo_81 rfl ?_
      refine j_aload_n dX0_rowsTo_83 rfl ?_
      refine j_get 0 dX0_rowsTo_84 (by first | rfl | assumption) in_X0 rfl (by decide) q153 rfl ?_
      refine j_getN 2 dX0_rowsTo_87 (by first | rfl | assumption) in_X1 rfl (by decide) (fun _ hs => hs.1 _ qn109) rfl ?_
      refine j_icmp_ge (tgt := 153) dX0_rowsTo_90 (by decide) (fun c90 => ?_) (fun c90 => ?_)
      · skip
        have hkk : k = nk := by
          have := (nI_leI (by omega) (by omega)).mp c90
          omega
        subst hkk
        have hlin2 : ∀ c : Nat → Nat, fb_sm (fun q => t q * c q) (8 * m * m) = fb_sm (fun q => w q * kS (fun k s => strk kd bs m (ks k) s) wo c k q) (s + 1) := fun c => by rw [hlin c, fb_sm_succ]
        refine j_iinc dX0_rowsTo_153 rfl (by decide) rfl ?_
        refine j_goto (tgt := 63) dX0_rowsTo_156 (by decide) ?_
        refine j_less (L' := [some (.ref (r 0)), some (.int (nI n)), some (.int (nI v)), some (.int wo), some (.int (nI i)), some (.int (nI (s + 1))), none, none]) ⟨Or.inr rfl, Or.inr rfl, Or.inr rfl, Or.inr rfl, Or.inr rfl, Or.inr (by rw [← nI_inc]), Or.inl rfl, Or.inl rfl, trivial⟩ ?_
        exact ih2 (s + 1) t th ⟨by omega, hth, fun c => hlin2 c⟩ (by omega)
      · skip
        have hkK2 : k < nk := Nat.lt_of_not_le (fun q => c90 (nI_le q (by omega)))
        have hxl := strk_lt hD (hks k hkK2).2.2 hsN2
        refine j_aload_n dX0_rowsTo_93 rfl ?_
        refine j_get 15 dX0_rowsTo_94 (by first | rfl | assumption) in_X0 rfl (by decide) q168 rfl ?_
        refine j_iload dX0_rowsTo_97 rfl ?_
        refine j_iald 0 s dX0_rowsTo_99 (by first | rfl | assumption) rfl rfl (by show s < 80000; omega) (by decide) ?_
        refine j_eqi (show _ = nI (w s) from hwa s hsN2) ?_
        refine j_if_le (tgt := 153) dX0_rowsTo_100 (by decide) (fun c100 => ?_) (fun c100 => ?_)
        · skip
          have hw0 : w s = 0 := by
            rcases Nat.eq_zero_or_pos (w s) with q | q
            · exact q
            · exact absurd c100 (nI_nle q (hwb s hsN2))
          have hlin2 : ∀ c : Nat → Nat, fb_sm (fun q => t q * c q) (8 * m * m) = fb_sm (fun q => w q * kS (fun k s => strk kd bs m (ks k) s) wo c nk q) (s + 1) := fun c => by rw [hlin c, fb_sm_succ, hw0, Nat.zero_mul, Nat.zero_mul]
          refine j_iinc dX0_rowsTo_153 rfl (by decide) rfl ?_
          refine j_goto (tgt := 63) dX0_rowsTo_156 (by decide) ?_
          refine j_less (L' := [some (.ref (r 0)), some (.int (nI n)), some (.int (nI v)), some (.int wo), some (.int (nI i)), some (.int (nI (s + 1))), none, none]) ⟨Or.inr rfl, Or.inr rfl, Or.inr rfl, Or.inr rfl, Or.inr rfl, Or.inr (by rw [← nI_inc]), Or.inl rfl, Or.inl rfl, trivial⟩ ?_
          exact ih2 (s + 1) t th ⟨by omega, hth, fun c => hlin2 c⟩ (by omega)
        · skip
          refine j_aload_n dX0_rowsTo_103 rfl ?_
          refine j_get 0 dX0_rowsTo_104 (by first | rfl | assumption) in_X0 rfl (by decide) q153 rfl ?_
          refine j_getN 1 dX0_rowsTo_107 (by first | rfl | assumption) in_X1 rfl (by decide) (fun _ hs => hs.1 _ qn107) rfl ?_
          refine j_iload dX0_rowsTo_110 rfl ?_
          refine j_aald (w := .ref (r (k + 63))) 4 k dX0_rowsTo_112 (by first | rfl | assumption) rfl rfl rfl (by omega) (by decide) (by rw [(hks _ hkK2).1]; rfl) ?_
          refine j_iload dX0_rowsTo_113 rfl ?_
          refine j_strike (i := 61) (q := ks k) dX0_rowsTo_115 (by exact (hks k hkK2).2.1) (by exact h61) hD (hks k hkK2).2.2 hsN2 ⟨Nat.le_of_ble_eq_true rfl, Nat.le_of_ble_eq_true rfl, Nat.le_of_ble_eq_true rfl, Nat.le_of_ble_eq_true rfl⟩ (Nat.le_of_ble_eq_true rfl) ?_
          generalize hto : strk kd bs m (ks k) s = to at hxl ⊢
          refine j_istore dX0_rowsTo_118 (by decide) rfl ?_
          refine j_aload_n dX0_rowsTo_120 rfl ?_
          refine j_get 16 dX0_rowsTo_121 (by first | rfl | assumption) in_X0 rfl (by decide) q169 rfl ?_
          refine j_iload dX0_rowsTo_124 rfl ?_
          refine j_dup2 dX0_rowsTo_126 rfl rfl ?_
          refine j_iald 0 to dX0_rowsTo_127 (by first | rfl | assumption) rfl rfl (by show to < 80000; omega) (by decide) ?_
          refine j_eqi (show _ = nI (t to) from hth to hxl) ?_
          refine j_join (tgt := 145) (fun x => x = nI (if nI k = wo then 0 else w s)) (fun v128 hv128 => ?_) (fun kj128 => ?_)
          · skip
            refine j_iadd dX0_rowsTo_145 ?_
            subst hv128
            refine j_eqi (nI_add _ _) ?_
            refine j_iast 0 to dX0_rowsTo_146 (by first | rfl | assumption) rfl rfl (by show to < 80000; omega) (by decide) ?_
            refine j_fkW (f := _) (by decide) rfl ?_
            refine j_iinc dX0_rowsTo_147 rfl (by decide) rfl ?_
            refine j_goto (tgt := 81) dX0_rowsTo_150 (by decide) ?_
            refine j_less (L' := [some (.ref (r 0)), some (.int (nI n)), some (.int (nI v)), some (.int wo), some (.int (nI i)), some (.int (nI s)), some (.int (nI (k + 1))), none]) ⟨Or.inr rfl, Or.inr rfl, Or.inr rfl, Or.inr rfl, Or.inr rfl, Or.inr rfl, Or.inr (by rw [← nI_inc]), Or.inl rfl, trivial⟩ ?_
            refine ih3 (k + 1) (va_up t to (t to + (if nI k = wo then 0 else w s))) _ ⟨by omega, fun q hq => ?_, fun c => ?_⟩ (by omega)
            · by_cases hqt : q = to
              · subst hqt; rw [va_up_self]; exact pk_us
              · rw [va_up_ne _ _ hqt]; exact (pk_un hqt).trans (hth q hq)
            · rw [sm_upd hxl, hlin c]
              have e1 : kS (fun k s => strk kd bs m (ks k) s) wo c (k + 1) s = kS (fun k s => strk kd bs m (ks k) s) wo c k s + (if nI k = wo then 0 else c to) := by
                unfold kS
                rw [fb_sm_succ, ← hto]
              rw [e1, Nat.mul_add]
              by_cases hq : nI k = wo
              · rw [if_pos hq, if_pos hq]; omega
              · rw [if_neg hq, if_neg hq]; omega
          · skip
            refine j_iload dX0_rowsTo_128 rfl ?_
            refine j_iload_n dX0_rowsTo_130 rfl ?_
            refine j_icmp_ne (tgt := 138) dX0_rowsTo_131 (by decide) (fun c131 => ?_) (fun c131 => ?_)
            · skip
              refine j_aload_n dX0_rowsTo_138 rfl ?_
              refine j_get 15 dX0_rowsTo_139 (by first | rfl | assumption) in_X0 rfl (by decide) q168 rfl ?_
              refine j_iload dX0_rowsTo_142 rfl ?_
              refine j_iald 0 s dX0_rowsTo_144 (by first | rfl | assumption) rfl rfl (by show s < 80000; omega) (by decide) ?_
              refine j_eqi (show _ = nI (w s) from hwa s hsN2) ?_
              exact kj128 _ (by first | exact congrArg nI (if_pos c131).symm | exact congrArg nI (if_neg c131).symm)
            · skip
              refine j_iconst (v := 0) dX0_rowsTo_134 (by decide) ?_
              refine j_goto (tgt := 145) dX0_rowsTo_135 (by decide) ?_
              exact kj128 _ (by first | exact congrArg nI (if_pos c131).symm | exact congrArg nI (if_neg c131).symm)
