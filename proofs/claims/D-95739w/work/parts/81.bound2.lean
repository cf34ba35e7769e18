set_option maxRecDepth 100000
/-! strokes counted; numbers shown by untyped states -/
def bd_rs (kd bs m K : Nat) (ks : Nat → KY) (a0 : A4) : Nat → A4 → Prop
  | 0, a => a = a0
  | i + 1, a => ∃ b k, bd_rs kd bs m K ks a0 i b ∧ k < K ∧ a = stk kd bs m (ks k) b
def bd_D (kd bs m K : Nat) (ks : Nat → KY) (a0 : A4) (n : Nat) (a : A4) : Prop := ∃ i, i ≤ n ∧ bd_rs kd bs m K ks a0 i a
def bd_U (kd bs m K : Nat) (ks : Nat → KY) (a0 : A4) (n x : Nat) : Prop := ∃ w h, bd_D kd bs m K ks a0 n (w, h, x, 0)
/-- what comes from the first state by figures and now-keys alone -/
def bd_ir (kd bs m K : Nat) (ks : Nat → KY) (a0 : A4) : Nat → Nat × Nat → Prop
  | 0, p => p = a0.2.2
  | i + 1, p => ∃ b k, bd_ir kd bs m K ks a0 i b ∧ k < K ∧ (bd_fg (ks k) ∨ (ks k).1 = 6) ∧ p = bd_in kd bs m (ks k) b
/-- untyped numbers behind a sign with h held, by now-keys -/
def bd_S (kd bs m K : Nat) (ks : Nat → KY) (h : Nat) : Nat → Nat → Prop
  | 0, x => x = h ∨ ∃ j y k, 1 ≤ j ∧ bd_tr kd bs m K ks j y ∧ k < K ∧ (ks k).1 = 6 ∧ x = reck kd m (ks k).2.2.2 y (ks k).2.2.1
  | i + 1, x => bd_S kd bs m K ks h i x ∨ ∃ z k, bd_S kd bs m K ks h i z ∧ k < K ∧ (ks k).1 = 6 ∧ x = reck kd m (ks k).2.2.2 z (ks k).2.2.1
section BD
variable {kd bs m fg K : Nat} {ks : Nat → KY} {a0 : A4}
theorem bd_is {q : KY} {w h x t : Nat} (h4 : q.1 = 4) : stk kd bs m q (w, h, x, t) = (0, 0, if 0 < w then reck kd m w h x else x, 0) := by
  unfold stk
  rw [if_neg (by omega), if_neg (by omega), if_pos h4]
theorem bd_cl {q : KY} {a : A4} (h5 : q.1 = 5) : stk kd bs m q a = (0, 0, 0, 0) := by
  unfold stk
  rw [if_neg (by omega), if_neg (by omega), if_neg (by omega), if_pos h5]
theorem bd_sg {q : KY} {w h x t : Nat} (h1 : 1 ≤ q.1) (h3 : q.1 ≤ 3) : stk kd bs m q (w, h, x, t) = (q.1, (if 0 < w ∧ t = 1 then reck kd m w h x else x), (if 0 < w ∧ t = 1 then reck kd m w h x else x), 0) := by
  unfold stk
  rw [if_neg (by omega), if_neg (by omega), if_neg (by omega), if_neg (by omega), if_neg (by omega)]
theorem bd_D.mono {n n' : Nat} {a : A4} (h : bd_D kd bs m K ks a0 n a) (hn : n ≤ n') : bd_D kd bs m K ks a0 n' a := by
  obtain ⟨i, h1, h2⟩ := h
  exact ⟨i, by omega, h2⟩
theorem bd_D.step {n k : Nat} {a : A4} (h : bd_D kd bs m K ks a0 n a) (hk : k < K) : bd_D kd bs m K ks a0 (n + 1) (stk kd bs m (ks k) a) := by
  obtain ⟨i, h1, h2⟩ := h
  exact ⟨i + 1, by omega, a, k, h2, hk, rfl⟩
theorem bd_D0 : bd_D kd bs m K ks a0 0 a0 := ⟨0, Nat.le_refl _, rfl⟩
theorem bd_U.mono {n n' x : Nat} (h : bd_U kd bs m K ks a0 n x) (hn : n ≤ n') : bd_U kd bs m K ks a0 n' x := by
  obtain ⟨w, g, h⟩ := h
  exact ⟨w, g, h.mono hn⟩
theorem bd_rs_ok (hD : okD kd bs m) (hks : ∀ k, k < K → okK bs m (ks k)) (h0 : okA m a0) : ∀ i a, bd_rs kd bs m K ks a0 i a → okA m a
  | 0, _, h => by cases h; exact h0
  | i + 1, a, ⟨b, k, h1, hk, e⟩ => by rw [e]; exact stk_ok hD (hks k hk) (bd_rs_ok hD hks h0 i b h1)
theorem bd_U_lt (hD : okD kd bs m) (hks : ∀ k, k < K → okK bs m (ks k)) (h0 : okA m a0) {n x : Nat} (h : bd_U kd bs m K ks a0 n x) : x < m := by
  obtain ⟨w, g, i, -, h⟩ := h
  exact (bd_rs_ok hD hks h0 i _ h).2.2.1
theorem bd_D.inn (hbm : bs ≤ m) (hks : ∀ k, k < K → okK bs m (ks k)) {n k w g : Nat} {p : Nat × Nat} (h : bd_D kd bs m K ks a0 n (w, g, p)) (hk : k < K) (hf : bd_fg (ks k) ∨ (ks k).1 = 6) : bd_D kd bs m K ks a0 (n + 1) (w, g, bd_in kd bs m (ks k) p) := by
  have := h.step hk
  rw [bd_stkI hbm (hks k hk) hf] at this
  exact this
theorem bd_inF {q : KY} {p : Nat × Nat} (hf : bd_fg q) : bd_in kd bs m q p = (bd_T kd bs m q (if p.2 = 1 then p.1 else 0), 1) := by
  unfold bd_in
  rw [if_neg (by unfold bd_fg at hf; omega)]
theorem bd_inN {q : KY} {p : Nat × Nat} (h6 : q.1 = 6) : bd_in kd bs m q p = (reck kd m q.2.2.2 p.1 q.2.2.1, 0) := by
  unfold bd_in
  rw [if_pos h6]
theorem bd_lift (hbm : bs ≤ m) (hks : ∀ k, k < K → okK bs m (ks k)) {n w g x : Nat} (h : bd_D kd bs m K ks a0 n (w, g, x, 0)) : ∀ j y, bd_tr kd bs m K ks (j + 1) y → bd_D kd bs m K ks a0 (n + (j + 1)) (w, g, y, 1)
  | 0, y, ⟨z, k, h1, hk, hf, e⟩ => by
    have h2 := h.inn hbm hks hk (Or.inl hf)
    rw [bd_inF hf, if_neg (show ¬ ((x, 0) : Nat × Nat).2 = 1 from (by decide : ¬ (0 : Nat) = 1))] at h2
    cases h1
    rw [e]; exact h2
  | j + 1, y, ⟨z, k, h1, hk, hf, e⟩ => by
    have h2 := (bd_lift hbm hks h j z h1).inn hbm hks hk (Or.inl hf)
    rw [bd_inF hf, if_pos (show ((z, 1) : Nat × Nat).2 = 1 from rfl)] at h2
    rw [e]; exact h2
/-- typed within seven strokes of an untyped state -/
theorem bd_typed (hD : okD kd bs m) (hm : m = bs ^ fg) (hfg : 1 ≤ fg ∧ fg ≤ 6) (hks : ∀ k, k < K → okK bs m (ks k)) {n w g x : Nat} (h : bd_D kd bs m K ks a0 n (w, g, x, 0)) {j y : Nat} (hj : 1 ≤ j) (hy : bd_tr kd bs m K ks j y) : bd_D kd bs m K ks a0 (n + 7) (w, g, y, 1) := by
  obtain ⟨i, i1, i2, i3⟩ := bd_short hD hm hfg.2 hfg.1 hj hy
  have h9 := bd_lift hD.2.2.2.1 hks h (i - 1) y (by rw [show i - 1 + 1 = i by omega]; exact i3)
  exact h9.mono (by omega)
/-- the first fibre is done after 2 m strokes -/
theorem bd_first (hD : okD kd bs m) (hks : ∀ k, k < K → okK bs m (ks k)) (h0 : okA m a0) {i : Nat} {p : Nat × Nat} (h : bd_ir kd bs m K ks a0 i p) : bd_D kd bs m K ks a0 (2 * m) (a0.1, a0.2.1, p) := by
  have toD : ∀ i p, bd_ir kd bs m K ks a0 i p → bd_rs kd bs m K ks a0 i (a0.1, a0.2.1, p) := by
    intro i
    induction i with
    | zero => intro p h; cases h; rfl
    | succ i ih =>
      rintro p ⟨b, k, h1, hk, hf, rfl⟩
      exact ⟨_, k, ih b h1, hk, (bd_stkI hD.2.2.2.1 (hks k hk) hf).symm⟩
  have ok : ∀ i p, bd_ir kd bs m K ks a0 i p → p.1 < m ∧ p.2 < 2 := fun i p h => (bd_rs_ok hD hks h0 i _ (toD i p h)).2.2
  have g := bd_grow (m := 2 * m) (u := 2 * m) (S := fun k z => ∃ i p, i ≤ k ∧ bd_ir kd bs m K ks a0 i p ∧ z = p.1 * 2 + p.2) (fun k x ⟨i, p, h1, h2, h3⟩ => ⟨i, p, by omega, h2, h3⟩) (fun k x ⟨i, p, h1, h2, h3⟩ => by have := ok i p h2; omega) (fun k hs x ⟨i, p, h1, h2, h3⟩ => by
    by_cases hi : i ≤ k + 1
    · exact ⟨i, p, hi, h2, h3⟩
    · cases i with
      | zero => omega
      | succ i =>
        obtain ⟨b, k', h4, hk, hf, e⟩ := h2
        obtain ⟨i', b', h5, h6, h7⟩ := hs (b.1 * 2 + b.2) ⟨i, b, by omega, h4, rfl⟩
        have o1 := ok i b h4
        have o2 := ok i' b' h6
        have e9 : b' = b := Prod.ext (by omega) (by omega)
        rw [e9] at h6
        exact ⟨i' + 1, p, by omega, ⟨b, k', h6, hk, hf, e⟩, h3⟩) (bd_cnt_le _)
  obtain ⟨i', p', h1, h2, h3⟩ := g i (p.1 * 2 + p.2) ⟨i, p, Nat.le_refl _, h, rfl⟩
  have o1 := ok i p h
  have o2 := ok i' p' h2
  have e9 : p' = p := Prod.ext (by omega) (by omega)
  rw [e9] at h2
  exact ⟨i', h1, toD i' p h2⟩
theorem bd_S_mono {h k x : Nat} (hs : bd_S kd bs m K ks h k x) : bd_S kd bs m K ks h (k + 1) x := Or.inl hs
theorem bd_S_lt (hD : okD kd bs m) {h : Nat} (hh : h < m) : ∀ k x, bd_S kd bs m K ks h k x → x < m
  | 0, x, hs => by
    have hm0 : 0 < m := by omega
    rcases hs with e | ⟨j, y, k, h1, h2, hk, h6, e⟩
    · omega
    · rw [e]; exact reck_lt hm0 (bd_tr_lt hm0 j y h2)
  | k + 1, x, hs => by
    rcases hs with h1 | ⟨z, k', h1, hk, h6, e⟩
    · exact bd_S_lt hD hh k x h1
    · rw [e]; exact reck_lt (by omega) (bd_S_lt hD hh k z h1)
/-- behind a sign -/
theorem bd_fib (hks : ∀ k, k < K → okK bs m (ks k)) {n k h : Nat} (hU : bd_U kd bs m K ks a0 n h) (hk : k < K) (h1 : 1 ≤ (ks k).1) (h3 : (ks k).1 ≤ 3) : bd_D kd bs m K ks a0 (n + 1) ((ks k).1, h, h, 0) := by
  obtain ⟨w, g, hd⟩ := hU
  have := hd.step hk
  rw [bd_sg h1 h3, if_neg (fun z => absurd z.2 (by decide))] at this
  exact this
theorem bd_S_D (hD : okD kd bs m) (hm : m = bs ^ fg) (hfg : 1 ≤ fg ∧ fg ≤ 6) (hks : ∀ k, k < K → okK bs m (ks k)) {n w h : Nat} (hF : bd_D kd bs m K ks a0 (n + 1) (w, h, h, 0)) : ∀ k x, bd_S kd bs m K ks h k x → bd_D kd bs m K ks a0 (n + 9 + k) (w, h, x, 0)
  | 0, x, hs => by
    rcases hs with e | ⟨j, y, k, h1, h2, hk, h6, e⟩
    · rw [e]; exact hF.mono (by omega)
    · have h3 := (bd_typed hD hm hfg hks hF h1 h2).inn hD.2.2.2.1 hks hk (Or.inr h6)
      rw [bd_inN h6] at h3
      rw [e]; exact h3.mono (by omega)
  | k + 1, x, hs => by
    rcases hs with h1 | ⟨z, k', h1, hk, h6, e⟩
    · exact (bd_S_D hD hm hfg hks hF k x h1).mono (by omega)
    · have h3 := (bd_S_D hD hm hfg hks hF k z h1).inn hD.2.2.2.1 hks hk (Or.inr h6)
      rw [bd_inN h6] at h3
      rw [e]; exact h3.mono (by omega)
/-- U stands still: then all is there -/
theorem bd_all (hD : okD kd bs m) (hm : m = bs ^ fg) (hfg : 1 ≤ fg ∧ fg ≤ 6) (hks : ∀ k, k < K → okK bs m (ks k)) (h0 : okA m a0) {n : Nat} (hn : 2 * m + 9 ≤ n) (hst : ∀ x, bd_U kd bs m K ks a0 (n + bd_cnt (bd_U kd bs m K ks a0 n) m + 10) x → bd_U kd bs m K ks a0 n x) : ∀ i a, bd_rs kd bs m K ks a0 i a → ∃ b, bd_D kd bs m K ks a0 (n + 8) b ∧ b.2.2.1 = a.2.2.1 := by
  obtain ⟨u, hu⟩ : ∃ u, bd_cnt (bd_U kd bs m K ks a0 n) m = u := ⟨_, rfl⟩
  rw [hu] at hst
  have up : ∀ j x, j ≤ n + u + 10 → bd_U kd bs m K ks a0 j x → bd_U kd bs m K ks a0 n x := fun j x hj h => hst x (h.mono hj)
  have hbm := hD.2.2.2.1
  have fib : ∀ w h, bd_D kd bs m K ks a0 (n + 1) (w, h, h, 0) → bd_U kd bs m K ks a0 n h → ∀ k x, bd_S kd bs m K ks h k x → bd_D kd bs m K ks a0 (n + 9 + u) (w, h, x, 0) ∧ bd_U kd bs m K ks a0 n x := by
    intro w h hF hU k x hs
    have hh := bd_U_lt hD hks h0 hU
    have hg := bd_grow (m := m) (u := u) (S := bd_S kd bs m K ks h) (fun k x hs => Or.inl hs) (fun k x hs => bd_S_lt hD hh k x hs) (fun k hsub x hs => by
      rcases hs with h1 | ⟨z, k', h1, hk, h6, e⟩
      · exact h1
      · exact Or.inr ⟨z, k', hsub z h1, hk, h6, e⟩) (by
      refine Nat.le_trans (bd_cnt_mono m (fun x _ hs => up (n + 9 + (u + 1)) x (by omega) ?_)) (Nat.le_of_eq hu)
      exact ⟨w, h, bd_S_D hD hm hfg hks hF (u + 1) x hs⟩)
    have h1 := bd_S_D hD hm hfg hks hF u x (hg k x hs)
    exact ⟨h1, up _ x (by omega) ⟨w, h, h1⟩⟩
  -- what holds of every state that comes
  let ZZ : A4 → Prop := fun a => a.1 = 0 ∧ a.2.1 = 0 ∧ (∃ z, bd_D kd bs m K ks a0 1 (0, 0, z, 0)) ∧ (a.2.2.2 = 0 ∧ bd_U kd bs m K ks a0 n a.2.2.1 ∨ a.2.2.2 = 1 ∧ ∃ j, 1 ≤ j ∧ bd_tr kd bs m K ks j a.2.2.1)
  let PP : A4 → Prop := fun a => 0 < a.1 ∧ bd_U kd bs m K ks a0 n a.2.1 ∧ bd_D kd bs m K ks a0 (n + 1) (a.1, a.2.1, a.2.1, 0) ∧ (a.2.2.2 = 0 ∧ (∃ k, bd_S kd bs m K ks a.2.1 k a.2.2.1) ∨ a.2.2.2 = 1 ∧ ∃ j, 1 ≤ j ∧ bd_tr kd bs m K ks j a.2.2.1)
  let II : A4 → Prop := fun a => (∃ i p, bd_ir kd bs m K ks a0 i p ∧ a = (a0.1, a0.2.1, p)) ∨ ZZ a ∨ PP a
  have l_cl : ∀ k, k < K → (ks k).1 = 5 → II (0, 0, 0, 0) := by
    intro k hk h5
    have h1 : bd_D kd bs m K ks a0 1 (0, 0, 0, 0) := by
      have := (bd_D0 (kd := kd) (bs := bs) (m := m) (ks := ks) (a0 := a0)).step hk
      rw [bd_cl h5] at this
      exact this
    exact Or.inr (Or.inl ⟨rfl, rfl, ⟨0, h1⟩, Or.inl ⟨rfl, up 1 0 (by omega) ⟨0, 0, h1⟩⟩⟩)
  have l_is : ∀ k, k < K → (ks k).1 = 4 → ∀ v, bd_U kd bs m K ks a0 n v → II (0, 0, v, 0) := by
    intro k hk h4 v hv
    have h1 : ∃ z, bd_D kd bs m K ks a0 1 (0, 0, z, 0) := by
      have := (bd_D0 (kd := kd) (bs := bs) (m := m) (ks := ks) (a0 := a0)).step hk
      obtain ⟨w, g, x, t⟩ := a0
      rw [bd_is h4] at this
      exact ⟨_, this⟩
    exact Or.inr (Or.inl ⟨rfl, rfl, h1, Or.inl ⟨rfl, hv⟩⟩)
  have l_sg : ∀ k, k < K → 1 ≤ (ks k).1 → (ks k).1 ≤ 3 → ∀ v, bd_U kd bs m K ks a0 n v → II ((ks k).1, v, v, 0) := by
    intro k hk h1 h3 v hv
    exact Or.inr (Or.inr ⟨h1, hv, bd_fib hks hv hk h1 h3, Or.inl ⟨rfl, 0, Or.inl rfl⟩⟩)
  have kinds : ∀ k, k < K → (bd_fg (ks k) ∨ (ks k).1 = 6) ∨ (ks k).1 = 4 ∨ (ks k).1 = 5 ∨ (1 ≤ (ks k).1 ∧ (ks k).1 ≤ 3) := by
    intro k hk
    have := (hks k hk).1
    unfold bd_fg
    omega
  have inv : ∀ i a, bd_rs kd bs m K ks a0 i a → II a := by
    intro i
    induction i with
    | zero =>
      intro a h
      cases h
      exact Or.inl ⟨0, a0.2.2, rfl, rfl⟩
    | succ i ih =>
      rintro b ⟨a, k, h1, hk, rfl⟩
      rcases ih a h1 with ⟨j, p, hj, rfl⟩ | hZ | hP
      · have hd := bd_first hD hks h0 hj
        have hd2 := hd.step hk
        rcases kinds k hk with hf | h4 | h5 | ⟨s1, s3⟩
        · rw [bd_stkI hbm (hks k hk) hf]
          exact Or.inl ⟨j + 1, _, ⟨p, k, hj, hk, hf, rfl⟩, rfl⟩
        · obtain ⟨x, t⟩ := p
          rw [bd_is h4] at hd2 ⊢
          exact l_is k hk h4 _ (up (2 * m + 1) _ (by omega) ⟨0, 0, hd2⟩)
        · rw [bd_cl h5]; exact l_cl k hk h5
        · obtain ⟨x, t⟩ := p
          rw [bd_sg s1 s3] at hd2 ⊢
          exact l_sg k hk s1 s3 _ (up (2 * m + 1) _ (by omega) ⟨_, _, hd2⟩)
      · obtain ⟨w, g, x, t⟩ := a
        obtain ⟨e1, e2, ⟨z, hz⟩, hx⟩ := hZ
        have e1 : w = 0 := e1
        have e2 : g = 0 := e2
        subst e1; subst e2
        rcases kinds k hk with (hf | h6) | h4 | h5 | ⟨s1, s3⟩
        · rw [bd_stkI hbm (hks k hk) (Or.inl hf), bd_inF hf]
          refine Or.inr (Or.inl ⟨rfl, rfl, ⟨z, hz⟩, Or.inr ⟨rfl, ?_⟩⟩)
          rcases hx with ⟨ht, hx⟩ | ⟨ht, j, hj, hx⟩
          · have ht : t = 0 := ht
            subst ht
            exact ⟨1, Nat.le_refl _, 0, k, rfl, hk, hf, rfl⟩
          · have ht : t = 1 := ht
            subst ht
            exact ⟨j + 1, by omega, x, k, hx, hk, hf, rfl⟩
        · rw [bd_stkI hbm (hks k hk) (Or.inr h6), bd_inN h6]
          refine Or.inr (Or.inl ⟨rfl, rfl, ⟨z, hz⟩, Or.inl ⟨rfl, ?_⟩⟩)
          rcases hx with ⟨ht, w, g, hx⟩ | ⟨ht, j, hj, hx⟩
          · have h2 := hx.inn hbm hks hk (Or.inr h6)
            rw [bd_inN h6] at h2
            exact up (n + 1) _ (by omega) ⟨w, g, h2⟩
          · have h2 := (bd_typed hD hm hfg hks hz hj hx).inn hbm hks hk (Or.inr h6)
            rw [bd_inN h6] at h2
            exact up 9 _ (by omega) ⟨0, 0, h2⟩
        · rw [bd_is h4, if_neg (by omega)]
          refine l_is k hk h4 x ?_
          rcases hx with ⟨ht, hx⟩ | ⟨ht, j, hj, hx⟩
          · exact hx
          · have h2 := (bd_typed hD hm hfg hks hz hj hx).step hk
            rw [bd_is h4, if_neg (by omega)] at h2
            exact up 9 _ (by omega) ⟨0, 0, h2⟩
        · rw [bd_cl h5]; exact l_cl k hk h5
        · rw [bd_sg s1 s3, if_neg (fun q => absurd q.1 (by omega))]
          refine l_sg k hk s1 s3 x ?_
          rcases hx with ⟨ht, hx⟩ | ⟨ht, j, hj, hx⟩
          · exact hx
          · have h2 := (bd_typed hD hm hfg hks hz hj hx).step hk
            rw [bd_sg s1 s3, if_neg (fun q => absurd q.1 (by omega))] at h2
            exact up 9 _ (by omega) ⟨_, _, h2⟩
      · obtain ⟨w, g, x, t⟩ := a
        obtain ⟨hw, hU, hF, hx⟩ := hP
        have hw : 0 < w := hw
        have hU : bd_U kd bs m K ks a0 n g := hU
        have hF : bd_D kd bs m K ks a0 (n + 1) (w, g, g, 0) := hF
        rcases kinds k hk with (hf | h6) | h4 | h5 | ⟨s1, s3⟩
        · rw [bd_stkI hbm (hks k hk) (Or.inl hf), bd_inF hf]
          refine Or.inr (Or.inr ⟨hw, hU, hF, Or.inr ⟨rfl, ?_⟩⟩)
          rcases hx with ⟨ht, hx⟩ | ⟨ht, j, hj, hx⟩
          · have ht : t = 0 := ht
            subst ht
            exact ⟨1, Nat.le_refl _, 0, k, rfl, hk, hf, rfl⟩
          · have ht : t = 1 := ht
            subst ht
            exact ⟨j + 1, by omega, x, k, hx, hk, hf, rfl⟩
        · rw [bd_stkI hbm (hks k hk) (Or.inr h6), bd_inN h6]
          refine Or.inr (Or.inr ⟨hw, hU, hF, Or.inl ⟨rfl, ?_⟩⟩)
          rcases hx with ⟨ht, j, hx⟩ | ⟨ht, j, hj, hx⟩
          · exact ⟨j + 1, Or.inr ⟨x, k, hx, hk, h6, rfl⟩⟩
          · exact ⟨0, Or.inr ⟨j, x, k, hj, hx, hk, h6, rfl⟩⟩
        · rw [bd_is h4, if_pos hw]
          refine l_is k hk h4 _ ?_
          rcases hx with ⟨ht, j, hx⟩ | ⟨ht, j, hj, hx⟩
          · have h2 := (fib w g hF hU j x hx).1.step hk
            rw [bd_is h4, if_pos hw] at h2
            exact up (n + 9 + u + 1) _ (by omega) ⟨0, 0, h2⟩
          · have h2 := (bd_typed hD hm hfg hks hF hj hx).step hk
            rw [bd_is h4, if_pos hw] at h2
            exact up (n + 1 + 7 + 1) _ (by omega) ⟨0, 0, h2⟩
        · rw [bd_cl h5]; exact l_cl k hk h5
        · rcases hx with ⟨ht, j, hx⟩ | ⟨ht, j, hj, hx⟩
          · have ht : t = 0 := ht
            subst ht
            rw [bd_sg s1 s3, if_neg (fun q => absurd q.2 (by decide))]
            exact l_sg k hk s1 s3 x (fib w g hF hU j x hx).2
          · have ht : t = 1 := ht
            subst ht
            have h2 := (bd_typed hD hm hfg hks hF hj hx).step hk
            rw [bd_sg s1 s3] at h2 ⊢
            exact l_sg k hk s1 s3 _ (up (n + 1 + 7 + 1) _ (by omega) ⟨_, _, h2⟩)
  intro i a ha
  rcases inv i a ha with ⟨j, p, hj, rfl⟩ | ⟨e1, e2, ⟨z, hz⟩, hx⟩ | ⟨hw, hU, hF, hx⟩
  · exact ⟨_, (bd_first hD hks h0 hj).mono (by omega), rfl⟩
  · rcases hx with ⟨ht, w, g, hx⟩ | ⟨ht, j, hj, hx⟩
    · exact ⟨_, hx.mono (by omega), rfl⟩
    · exact ⟨_, (bd_typed hD hm hfg hks hz hj hx).mono (by omega), rfl⟩
  · rcases hx with ⟨ht, j, hx⟩ | ⟨ht, j, hj, hx⟩
    · obtain ⟨w, g, h2⟩ := (fib _ _ hF hU j _ hx).2
      exact ⟨_, h2.mono (by omega), rfl⟩
    · exact ⟨_, (bd_typed hD hm hfg hks hF hj hx).mono (by omega), rfl⟩
def bd_f (n0 : Nat) : Nat → Nat
  | 0 => n0
  | k + 1 => bd_f n0 k + k + 10
theorem bd_f_ge (n0 : Nat) : ∀ k, n0 ≤ bd_f n0 k
  | 0 => Nat.le_refl _
  | k + 1 => by have := bd_f_ge n0 k; rw [bd_f]; omega
theorem bd_f_add (n0 : Nat) : ∀ k, bd_f n0 k = n0 + bd_f 0 k
  | 0 => rfl
  | k + 1 => by rw [bd_f, bd_f, bd_f_add n0 k]; omega
theorem bd_f_up (n0 : Nat) : ∀ d k, bd_f n0 k ≤ bd_f n0 (k + d)
  | 0, k => Nat.le_refl _
  | d + 1, k => by have := bd_f_up n0 d k; rw [← Nat.add_assoc, bd_f]; omega
theorem bd_f_le (n0 : Nat) {k : Nat} (hk : k ≤ 100) : bd_f n0 k ≤ n0 + 5950 := by
  have h1 := bd_f_up 0 (100 - k) k
  rw [show k + (100 - k) = 100 by omega, show bd_f 0 100 = 5950 by decide +kernel] at h1
  rw [bd_f_add]
  omega
/-- U stands still within 5950 strokes more -/
theorem bd_stab (hm : m ≤ 100) : ∃ n, 2 * m + 9 ≤ n ∧ n ≤ 2 * m + 9 + 5950 ∧ ∀ x, x < m → bd_U kd bs m K ks a0 (n + bd_cnt (bd_U kd bs m K ks a0 n) m + 10) x → bd_U kd bs m K ks a0 n x := by
  refine Classical.byContradiction (fun hno => ?_)
  have key : ∀ k, k ≤ m + 1 → k ≤ bd_cnt (bd_U kd bs m K ks a0 (bd_f (2 * m + 9) k)) m := by
    intro k
    induction k with
    | zero => intro _; exact Nat.zero_le _
    | succ k ih =>
      intro hk
      have h1 := ih (by omega)
      have hge := bd_f_ge (2 * m + 9) k
      have hle := bd_f_le (2 * m + 9) (k := k) (by omega)
      have hmo : ∀ x, x < m → bd_U kd bs m K ks a0 (bd_f (2 * m + 9) k) x → bd_U kd bs m K ks a0 (bd_f (2 * m + 9) (k + 1)) x := fun x _ h => h.mono (by rw [bd_f]; omega)
      by_cases he : bd_cnt (bd_U kd bs m K ks a0 (bd_f (2 * m + 9) k)) m = k
      · have h2 : ∃ x, x < m ∧ bd_U kd bs m K ks a0 (bd_f (2 * m + 9) (k + 1)) x ∧ ¬ bd_U kd bs m K ks a0 (bd_f (2 * m + 9) k) x := by
          refine Classical.byContradiction (fun h3 => hno ⟨bd_f (2 * m + 9) k, hge, hle, fun x hx hU => ?_⟩)
          rw [he] at hU
          exact Classical.byContradiction (fun h4 => h3 ⟨x, hx, hU, h4⟩)
        have h5 := bd_cnt_lt m hmo h2
        omega
      · have h5 := bd_cnt_mono m hmo
        omega
  have h1 := key (m + 1) (Nat.le_refl _)
  have h2 := bd_cnt_le (P := bd_U kd bs m K ks a0 (bd_f (2 * m + 9) (m + 1))) m
  omega
theorem bd_num (hD : okD kd bs m) (hm : m = bs ^ fg) (hfg : 1 ≤ fg ∧ fg ≤ 6) (hks : ∀ k, k < K → okK bs m (ks k)) (h0 : okA m a0) {i : Nat} {a : A4} (h : bd_rs kd bs m K ks a0 i a) : ∃ j b, j ≤ 10100 ∧ bd_rs kd bs m K ks a0 j b ∧ b.2.2.1 = a.2.2.1 := by
  have h100 := hD.2.2.2.2
  obtain ⟨n, h1, h2, h3⟩ := bd_stab (bs := bs) (kd := kd) (K := K) (ks := ks) (a0 := a0) h100
  obtain ⟨b, ⟨j, h4, h5⟩, h6⟩ := bd_all hD hm hfg hks h0 h1 (fun x hx => h3 x (bd_U_lt hD hks h0 hx) hx) i a h
  exact ⟨j, b, by omega, h5, h6⟩
theorem bd_rs_of {w : Nat → Nat} : ∀ i a n, rcA (fun k a => stk kd bs m (ks k) a) K w (fun a n => a = a0 ∧ n = 0) i a n → bd_rs kd bs m K ks a0 i a
  | 0, _, _, h => h.1
  | i + 1, _, _, ⟨y, v, k, h1, hk, e, _⟩ => ⟨y, k, bd_rs_of i y v h1, hk, e⟩
theorem bd_rs_to {w : Nat → Nat} (hw : ∀ k, k < K → w k ≤ 99) : ∀ i a, bd_rs kd bs m K ks a0 i a → ∃ n, n ≤ 99 * i ∧ rcA (fun k a => stk kd bs m (ks k) a) K w (fun a n => a = a0 ∧ n = 0) i a n
  | 0, _, h => ⟨0, Nat.le_refl _, h, rfl⟩
  | i + 1, _, ⟨b, k, h1, hk, e⟩ => by
    obtain ⟨n, h2, h3⟩ := bd_rs_to hw i b h1
    have := hw k hk
    exact ⟨n + w k, by omega, b, n, k, h3, hk, e, rfl⟩
theorem bd_min {P : Nat → Prop} : ∀ n, P n → ∃ n, P n ∧ ∀ k, P k → n ≤ k := by
  intro n
  induction n using Nat.strongRecOn with
  | ind n ih =>
    intro h
    by_cases hc : ∃ k, k < n ∧ P k
    · obtain ⟨k, h1, h2⟩ := hc
      exact ih k h1 h2
    · exact ⟨n, h, fun k hk => Nat.le_of_not_lt (fun q => hc ⟨k, q, hk⟩)⟩
/-- FewKeys' least, which looks no farther than 999999, is the model's -/
theorem bd_least (hD : okD kd bs m) (hm : m = bs ^ fg) (hfg : 1 ≤ fg ∧ fg ≤ 6) (hks : ∀ k, k < K → okK bs m (ks k)) (h0 : okA m a0) (v : Nat) : lstN (fun n => (∃ a, rcE (fun k a => stk kd bs m (ks k) a) K (fun k => (ks k).2.1) (fun a n => a = a0 ∧ n = 0) a n ∧ a.2.2.1 = v) ∧ n < 999999) = lstN (fun n => ∃ b, rcE (fun k a => stk kd bs m (ks k) a) K (fun k => (ks k).2.1) (fun b n => b = a0 ∧ n = 0) b n ∧ b.2.2.1 = v) := by
  by_cases hex : ∃ n a, rcE (fun k a => stk kd bs m (ks k) a) K (fun k => (ks k).2.1) (fun a n => a = a0 ∧ n = 0) a n ∧ a.2.2.1 = v
  · obtain ⟨n1, a1, ⟨i, h1⟩, h2⟩ := hex
    obtain ⟨j, b, j1, j2, j3⟩ := bd_num hD hm hfg hks h0 (bd_rs_of i a1 n1 h1)
    obtain ⟨n2, h3, h4⟩ := bd_rs_to (w := fun k => (ks k).2.1) (fun k hk => (hks k hk).2.1) j b j2
    obtain ⟨n, hn1, hn2⟩ := bd_min (P := fun n => ∃ b, rcE (fun k a => stk kd bs m (ks k) a) K (fun k => (ks k).2.1) (fun b n => b = a0 ∧ n = 0) b n ∧ b.2.2.1 = v) n2 ⟨b, ⟨j, h4⟩, by rw [j3, h2]⟩
    have h5 := hn2 n2 ⟨b, ⟨j, h4⟩, by rw [j3, h2]⟩
    rw [lstN_is hn1 hn2]
    exact lstN_is ⟨hn1, by omega⟩ (fun k hk => hn2 k hk.1)
  · rw [lstN_none (fun n hn => hex ⟨n, hn.1⟩), lstN_none (fun n hn => hex ⟨n, hn⟩)]
end BD
