set_option maxRecDepth 100000
/-! ===== BOUND: every number that can be shown is shown within 10100 strokes ===== -/
noncomputable def bd_cnt (P : Nat → Prop) : Nat → Nat
  | 0 => 0
  | m + 1 => bd_cnt P m + @ite Nat (P m) (Classical.propDecidable _) 1 0
theorem bd_cnt_le {P : Nat → Prop} : ∀ m, bd_cnt P m ≤ m
  | 0 => Nat.le_refl _
  | m + 1 => by
    have := bd_cnt_le (P := P) m
    rw [bd_cnt]
    split <;> omega
theorem bd_cnt_mono {P Q : Nat → Prop} : ∀ m, (∀ x, x < m → P x → Q x) → bd_cnt P m ≤ bd_cnt Q m
  | 0, _ => Nat.le_refl _
  | m + 1, h => by
    have h1 := bd_cnt_mono m (fun x hx => h x (by omega))
    rw [bd_cnt, bd_cnt]
    by_cases hp : P m
    · rw [if_pos hp, if_pos (h m (by omega) hp)]; omega
    · rw [if_neg hp]; split <;> omega
theorem bd_cnt_lt {P Q : Nat → Prop} : ∀ m, (∀ x, x < m → P x → Q x) → (∃ x, x < m ∧ Q x ∧ ¬ P x) → bd_cnt P m < bd_cnt Q m
  | 0, _, ⟨_, hx, _⟩ => absurd hx (Nat.not_lt_zero _)
  | m + 1, h, ⟨x, hx, hq, hp⟩ => by
    rw [bd_cnt, bd_cnt]
    by_cases e : x = m
    · subst e
      have h1 := bd_cnt_mono x (fun y hy => h y (by omega))
      rw [if_neg hp, if_pos hq]; omega
    · have h1 := bd_cnt_lt m (fun y hy => h y (by omega)) ⟨x, by omega, hq, hp⟩
      by_cases hpm : P m
      · rw [if_pos hpm, if_pos (h m (by omega) hpm)]; omega
      · rw [if_neg hpm]; split <;> omega
/-- sets that grow, and stand still for ever once they stand still, within u numbers -/
theorem bd_grow {m u : Nat} {S : Nat → Nat → Prop} (hm : ∀ k x, S k x → S (k + 1) x) (hlt : ∀ k x, S k x → x < m) (hst : ∀ k, (∀ x, S (k + 1) x → S k x) → ∀ x, S (k + 2) x → S (k + 1) x) (hc : bd_cnt (S (u + 1)) m ≤ u) : ∀ k x, S k x → S u x := by
  have hmono : ∀ d k x, S k x → S (k + d) x := by
    intro d
    induction d with
    | zero => intro k x h; exact h
    | succ d ih => intro k x h; exact hm _ _ (ih k x h)
  have hex : ∃ k, k ≤ u ∧ ∀ x, S (k + 1) x → S k x := by
    refine Classical.byContradiction (fun hno => ?_)
    have key : ∀ k, k ≤ u + 1 → k ≤ bd_cnt (S k) m := by
      intro k
      induction k with
      | zero => intro _; exact Nat.zero_le _
      | succ k ih =>
        intro hk
        have h1 := ih (by omega)
        have h2 : ∃ x, x < m ∧ S (k + 1) x ∧ ¬ S k x := by
          refine Classical.byContradiction (fun h3 => hno ⟨k, by omega, fun x hx => ?_⟩)
          exact Classical.byContradiction (fun h4 => h3 ⟨x, hlt _ _ hx, hx, h4⟩)
        have h5 := bd_cnt_lt m (fun x _ => hm k x) h2
        omega
    have := key (u + 1) (Nat.le_refl _)
    omega
  obtain ⟨k, hk, hs⟩ := hex
  have hs2 : ∀ d x, S (k + d + 1) x → S (k + d) x := by
    intro d
    induction d with
    | zero => exact hs
    | succ d ih => exact hst (k + d) ih
  have hs3 : ∀ d x, S (k + d) x → S k x := by
    intro d
    induction d with
    | zero => intro x h; exact h
    | succ d ih => intro x h; exact ih x (hs2 d x h)
  intro j x hx
  have h0 := hmono k j x hx
  rw [Nat.add_comm] at h0
  have h1 := hs3 j x h0
  have h2 := hmono (u - k) k x h1
  rw [show k + (u - k) = u by omega] at h2
  exact h2
/-! a figure on what is typed -/
def bd_tf (kd bs m d x : Nat) : Nat := if kd = 1 ∧ m ≤ x * bs + d then x else (x * bs + d) % m
def bd_T (kd bs m : Nat) (q : KY) (x : Nat) : Nat := if q.1 = 0 then bd_tf kd bs m q.2.2.1 x else bd_tf kd bs m q.2.2.2 (bd_tf kd bs m q.2.2.1 x)
def bd_fg (q : KY) : Prop := q.1 = 0 ∨ q.1 = 7
theorem bd_figA {kd bs m d w h x t : Nat} (hd : d < m) : figA kd bs m d (w, h, x, t) = (w, h, bd_tf kd bs m d (if t = 1 then x else 0), 1) := by
  show (w, h, (if t = 1 then (if kd = 1 ∧ m ≤ x * bs + d then x else (x * bs + d) % m) else d), 1) = _
  by_cases ht : t = 1
  · rw [if_pos ht, if_pos ht]; rfl
  · rw [if_neg ht, if_neg ht]
    unfold bd_tf
    rw [Nat.zero_mul, Nat.zero_add, if_neg (by omega), Nat.mod_eq_of_lt hd]
def bd_in (kd bs m : Nat) (q : KY) (p : Nat × Nat) : Nat × Nat := if q.1 = 6 then (reck kd m q.2.2.2 p.1 q.2.2.1, 0) else (bd_T kd bs m q (if p.2 = 1 then p.1 else 0), 1)
theorem bd_stkI {kd bs m w h : Nat} {q : KY} {p : Nat × Nat} (hbm : bs ≤ m) (hq : okK bs m q) (hf : bd_fg q ∨ q.1 = 6) : stk kd bs m q (w, h, p) = (w, h, bd_in kd bs m q p) := by
  obtain ⟨x, t⟩ := p
  obtain ⟨k1, k2, k3, k4, k5⟩ := hq
  unfold stk bd_in
  rcases hf with (h0 | h7) | h6
  · rw [if_pos h0, if_neg (by omega), bd_figA (by have := k3 h0; omega)]
    unfold bd_T
    rw [if_pos h0]
  · have e1 : figA kd bs m q.2.2.1 (w, h, x, t) = (w, h, bd_tf kd bs m q.2.2.1 (if t = 1 then x else 0), 1) := bd_figA (by have := (k4 h7).1; omega)
    have e2 : ∀ y, figA kd bs m q.2.2.2 (w, h, y, 1) = (w, h, bd_tf kd bs m q.2.2.2 y, 1) := fun y => by rw [bd_figA (by have := (k4 h7).2; omega), if_pos rfl]
    have h0 : ¬ q.1 = 0 := by omega
    rw [if_neg h0, if_pos h7, if_neg (by omega), e1, e2]
    unfold bd_T
    rw [if_neg h0]
  · rw [if_neg (by omega), if_neg (by omega), if_neg (by omega), if_neg (by omega), if_pos h6, if_pos h6]
theorem bd_tf_lt {kd bs m d x : Nat} (hm : 0 < m) (hx : x < m) : bd_tf kd bs m d x < m := by
  unfold bd_tf
  split
  · exact hx
  · exact Nat.mod_lt _ hm
theorem bd_T_lt {kd bs m x : Nat} {q : KY} (hm : 0 < m) (hx : x < m) : bd_T kd bs m q x < m := by
  unfold bd_T
  split
  · exact bd_tf_lt hm hx
  · exact bd_tf_lt hm (bd_tf_lt hm hx)
/-- with kind 1 a figure leaves the number, or doubles it at least -/
theorem bd_tf_dbl {bs m d x : Nat} (hb : 2 ≤ bs) : bd_tf 1 bs m d x = x ∨ (x = 0 ∨ 2 * x ≤ bd_tf 1 bs m d x) := by
  unfold bd_tf
  by_cases h : m ≤ x * bs + d
  · rw [if_pos ⟨rfl, h⟩]; exact Or.inl rfl
  · rw [if_neg (fun z => h z.2), Nat.mod_eq_of_lt (by omega)]
    refine Or.inr (Or.inr ?_)
    have : x * 2 ≤ x * bs := Nat.mul_le_mul_left x hb
    omega
theorem bd_T_dbl {bs m x : Nat} {q : KY} (hb : 2 ≤ bs) : bd_T 1 bs m q x = x ∨ (x = 0 ∨ 2 * x ≤ bd_T 1 bs m q x) := by
  unfold bd_T
  split
  · exact bd_tf_dbl hb
  · have h1 := bd_tf_dbl (m := m) (d := q.2.2.1) (x := x) hb
    have h2 := bd_tf_dbl (m := m) (d := q.2.2.2) (x := bd_tf 1 bs m q.2.2.1 x) hb
    omega
/-- runs of figures from 0 on -/
def bd_tr (kd bs m K : Nat) (ks : Nat → KY) : Nat → Nat → Prop
  | 0, y => y = 0
  | i + 1, y => ∃ z k, bd_tr kd bs m K ks i z ∧ k < K ∧ bd_fg (ks k) ∧ y = bd_T kd bs m (ks k) z
/-- the same, from any x on -/
def bd_trx (kd bs m K : Nat) (ks : Nat → KY) (x : Nat) : Nat → Nat → Prop
  | 0, y => y = x
  | i + 1, y => ∃ k, k < K ∧ bd_fg (ks k) ∧ bd_trx kd bs m K ks (bd_T kd bs m (ks k) x) i y
theorem bd_trx_app {kd bs m K : Nat} {ks : Nat → KY} : ∀ (i x z : Nat), bd_trx kd bs m K ks x i z → ∀ k, k < K → bd_fg (ks k) → bd_trx kd bs m K ks x (i + 1) (bd_T kd bs m (ks k) z)
  | 0, x, z, h, k, hk, hf => ⟨k, hk, hf, by cases h; rfl⟩
  | i + 1, x, z, ⟨k0, h0, f0, h1⟩, k, hk, hf => ⟨k0, h0, f0, bd_trx_app i _ z h1 k hk hf⟩
theorem bd_tr_x {kd bs m K : Nat} {ks : Nat → KY} : ∀ i y, bd_tr kd bs m K ks i y → bd_trx kd bs m K ks 0 i y
  | 0, _, h => h
  | i + 1, y, ⟨z, k, h1, hk, hf, e⟩ => by rw [e]; exact bd_trx_app i 0 z (bd_tr_x i z h1) k hk hf
theorem bd_tr_cat {kd bs m K : Nat} {ks : Nat → KY} : ∀ (i j x y : Nat), bd_tr kd bs m K ks j x → bd_trx kd bs m K ks x i y → bd_tr kd bs m K ks (j + i) y
  | 0, j, x, y, h1, h2 => by cases h2; exact h1
  | i + 1, j, x, y, h1, ⟨k, hk, hf, h2⟩ => by
    have := bd_tr_cat i (j + 1) _ y ⟨x, k, h1, hk, hf, rfl⟩ h2
    rw [show j + 1 + i = j + (i + 1) by omega] at this
    exact this
/-- kind 0: the figures that lie farther back than the dial is wide don't count -/
def bd_E (bs m j x x' : Nat) : Prop := x * bs ^ j % m = x' * bs ^ j % m
theorem bd_E_up {bs m j x x' : Nat} (h : bd_E bs m j x x') : bd_E bs m (j + 1) x x' := by
  unfold bd_E at h ⊢
  rw [Nat.pow_succ, ← Nat.mul_assoc, ← Nat.mul_assoc, Nat.mul_mod, h, ← Nat.mul_mod]
theorem bd_E_tf {bs m j d x x' : Nat} (h : bd_E bs m (j + 1) x x') : bd_E bs m j (bd_tf 0 bs m d x) (bd_tf 0 bs m d x') := by
  unfold bd_E at h ⊢
  unfold bd_tf
  rw [if_neg (by omega), if_neg (by omega)]
  have e : ∀ z, (z * bs + d) % m * bs ^ j % m = (z * bs ^ (j + 1) % m + d * bs ^ j) % m := by
    intro z
    rw [Nat.mod_mul_mod, Nat.add_mul, Nat.mod_add_mod, Nat.pow_succ, Nat.mul_comm (bs ^ j) bs, ← Nat.mul_assoc]
  rw [e, e, h]
theorem bd_E_T {bs m j x x' : Nat} {q : KY} (h : bd_E bs m (j + 1) x x') : bd_E bs m j (bd_T 0 bs m q x) (bd_T 0 bs m q x') := by
  unfold bd_T
  split
  · exact bd_E_tf h
  · exact bd_E_tf (bd_E_up (bd_E_tf h))
theorem bd_E_run {bs m K : Nat} {ks : Nat → KY} (hm : 0 < m) : ∀ (j x x' y : Nat), x < m → x' < m → bd_E bs m j x x' → bd_trx 0 bs m K ks x j y → bd_trx 0 bs m K ks x' j y
  | 0, x, x', y, hx, hx', h, hr => by
    unfold bd_E at h
    rw [Nat.pow_zero, Nat.mul_one, Nat.mul_one, Nat.mod_eq_of_lt hx, Nat.mod_eq_of_lt hx'] at h
    rw [← h]; exact hr
  | j + 1, x, x', y, hx, hx', h, ⟨k, hk, hf, hr⟩ => ⟨k, hk, hf, bd_E_run hm j _ _ y (bd_T_lt hm hx) (bd_T_lt hm hx') (bd_E_T h) hr⟩
theorem bd_tr_lt {kd bs m K : Nat} {ks : Nat → KY} (hm : 0 < m) : ∀ i y, bd_tr kd bs m K ks i y → y < m
  | 0, _, h => by cases h; exact hm
  | i + 1, y, ⟨z, k, h1, hk, hf, e⟩ => by rw [e]; exact bd_T_lt hm (bd_tr_lt hm i z h1)
theorem bd_trx_split {kd bs m K : Nat} {ks : Nat → KY} : ∀ (i j x y : Nat), bd_trx kd bs m K ks x (i + j) y → ∃ z, bd_trx kd bs m K ks x i z ∧ bd_trx kd bs m K ks z j y
  | 0, j, x, y, h => ⟨x, rfl, by rw [Nat.zero_add] at h; exact h⟩
  | i + 1, j, x, y, h => by
    rw [show i + 1 + j = (i + j) + 1 by omega] at h
    obtain ⟨k, hk, hf, hr⟩ := h
    obtain ⟨z, h1, h2⟩ := bd_trx_split i j _ y hr
    exact ⟨z, ⟨k, hk, hf, h1⟩, h2⟩
theorem bd_trx_lt {kd bs m K : Nat} {ks : Nat → KY} (hm : 0 < m) : ∀ i x y, x < m → bd_trx kd bs m K ks x i y → y < m
  | 0, x, y, hx, h => by cases h; exact hx
  | i + 1, x, y, hx, ⟨k, hk, hf, h⟩ => bd_trx_lt hm i _ y (bd_T_lt hm hx) h
/-- a number that can be typed is typed by at most seven strokes -/
theorem bd_short {kd bs m fg K : Nat} {ks : Nat → KY} (hD : okD kd bs m) (hm : m = bs ^ fg) (hfg : fg ≤ 6) (hfg1 : 1 ≤ fg) {i y : Nat} (hi : 1 ≤ i) (h : bd_tr kd bs m K ks i y) : ∃ j, 1 ≤ j ∧ j ≤ 7 ∧ bd_tr kd bs m K ks j y := by
  obtain ⟨d1, d2, d3, d4, d5⟩ := hD
  have hm0 : 0 < m := by omega
  by_cases hk : kd = 1
  · subst hk
    have key : ∀ i y, 1 ≤ i → bd_tr 1 bs m K ks i y → ∃ j, 1 ≤ j ∧ bd_tr 1 bs m K ks j y ∧ (j = 1 ∨ 2 ^ j ≤ 2 * y) := by
      intro i
      induction i with
      | zero => intro y h; omega
      | succ i ih =>
        intro y _ ⟨z, k, h1, hk, hf, e⟩
        by_cases hi0 : i = 0
        · subst hi0
          exact ⟨1, Nat.le_refl _, ⟨z, k, h1, hk, hf, e⟩, Or.inl rfl⟩
        · obtain ⟨j, j1, j2, j3⟩ := ih z (by omega) h1
          rcases bd_T_dbl (m := m) (x := z) (q := ks k) d2 with e1 | e1 | e1
          · rw [e, e1]; exact ⟨j, j1, j2, j3⟩
          · exact ⟨1, Nat.le_refl _, ⟨0, k, rfl, hk, hf, by rw [e, e1]⟩, Or.inl rfl⟩
          · rw [← e] at e1
            by_cases hz : z = 0
            · exact ⟨1, Nat.le_refl _, ⟨0, k, rfl, hk, hf, by rw [e, hz]⟩, Or.inl rfl⟩
            · refine ⟨j + 1, by omega, ⟨z, k, j2, hk, hf, e⟩, Or.inr ?_⟩
              rw [Nat.pow_succ]
              rcases j3 with j3 | j3
              · subst j3; omega
              · omega
    obtain ⟨j, j1, j2, j3⟩ := key i y hi h
    refine ⟨j, j1, ?_, j2⟩
    rcases j3 with j3 | j3
    · omega
    · have hy := bd_tr_lt hm0 j y j2
      refine Nat.le_of_not_lt (fun hlt => ?_)
      have : 2 ^ 8 ≤ 2 ^ j := Nat.pow_le_pow_right (by decide) hlt
      omega
  · have hk0 : kd = 0 := by omega
    subst hk0
    by_cases hif : i ≤ fg
    · exact ⟨i, hi, by omega, h⟩
    · have hx := bd_tr_x i y h
      rw [show i = (i - fg) + fg by omega] at hx
      obtain ⟨z, h1, h2⟩ := bd_trx_split (i - fg) fg 0 y hx
      have hz := bd_trx_lt hm0 (i - fg) 0 z hm0 h1
      have hE : bd_E bs m fg z 0 := by
        unfold bd_E
        rw [← hm, Nat.mul_mod_left, Nat.zero_mul, Nat.zero_mod]
      have h3 := bd_E_run hm0 fg z 0 y hz hm0 hE h2
      have h4 := bd_tr_cat fg 0 0 y rfl h3
      rw [Nat.zero_add] at h4
      exact ⟨fg, hfg1, by omega, h4⟩
