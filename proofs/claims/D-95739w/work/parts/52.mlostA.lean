set_option maxRecDepth 100000
/-- what is shown behind each stroke of a row, as figures; the key K does as one -/
def shB (stp : Nat → A4 → A4) (K as : Nat) : Nat → Nat → A4 → Nat → Nat
  | 0, _, _, v => v
  | n + 1, row, x, v => shB stp K as n (row / (K + 1)) (stp (if row % (K + 1) = K then as else row % (K + 1)) x) (100 * v + (stp (if row % (K + 1) = K then as else row % (K + 1)) x).2.2.1)
/-- whether a row parts all those of S -/
def telP (stp : Nat → A4 → A4) (K S n row : Nat) (x : Nat → A4) (v : Nat → Nat) : Prop := ∀ a b, a < K → b < a → S.testBit a = true → S.testBit b = true → shB stp K a n row (x a) (v a) ≠ shB stp K b n row (x b) (v b)
section LST
variable {stp : Nat → A4 → A4} {K S : Nat} {ok : A4 → Prop}
theorem shB_ne (hok : ∀ z k, ok z → k < K → ok (stp k z)) (h100 : ∀ z, ok z → z.2.2.1 < 100) {a b : Nat} (ha : a < K) (hb : b < K) : ∀ n row x y v w, ok x → ok y → v ≠ w → shB stp K a n row x v ≠ shB stp K b n row y w
  | 0, _, _, _, _, _, _, _, h => h
  | n + 1, row, x, y, v, w, hx, hy, h => by
    have hk : row % (K + 1) < K + 1 := Nat.mod_lt _ (Nat.succ_pos K)
    have h1 : ok (stp (if row % (K + 1) = K then a else row % (K + 1)) x) := hok _ _ hx (by split <;> omega)
    have h2 : ok (stp (if row % (K + 1) = K then b else row % (K + 1)) y) := hok _ _ hy (by split <;> omega)
    have h3 := h100 _ h1
    have h4 := h100 _ h2
    exact shB_ne hok h100 ha hb n _ _ _ _ _ h1 h2 (by omega)
theorem bsU_bit {f : Nat → Bool} {b : Nat} : ∀ n, (bsU f n).testBit b = (decide (b < n) && f b)
  | 0 => by rw [bsU]; simp
  | n + 1 => by
    rw [bsU, Nat.testBit_or, bsU_bit n]
    by_cases hb : b = n
    · subst hb
      cases f b <;> simp
    · have h2 : (if f n = true then 2 ^ n else 0).testBit b = false := by
        split
        · rw [Nat.testBit_two_pow]; simp; omega
        · simp
      rw [h2]
      have : decide (b < n + 1) = decide (b < n) := by
        by_cases hbn : b < n
        · simp [hbn]; omega
        · simp [hbn]; omega
      rw [this]
      simp
theorem sepU_iff {A : Nat → Nat} : ∀ n, sepU S A n = true ↔ ∀ a, a < n → S.testBit a = true → pcN (A a) = 1
  | 0 => ⟨fun _ a h => absurd h (Nat.not_lt_zero _), fun _ => rfl⟩
  | n + 1 => by
    rw [sepU, Bool.and_eq_true, sepU_iff n]
    constructor
    · rintro ⟨h1, h2⟩ a ha hs
      by_cases he : a = n
      · subst he
        rw [hs] at h2
        simpa using h2
      · exact h1 a (by omega) hs
    · intro h
      refine ⟨fun a ha hs => h a (by omega) hs, ?_⟩
      cases hs : S.testBit n with
      | false => rfl
      | true => simpa using h n (by omega) hs
theorem anU_iff {f : Nat → Bool} : ∀ n, anU f n = true ↔ ∃ k, k < n ∧ f k = true
  | 0 => ⟨fun h => (by cases h), fun ⟨k, h, _⟩ => absurd h (Nat.not_lt_zero _)⟩
  | n + 1 => by
    rw [anU, Bool.or_eq_true, anU_iff n]
    constructor
    · rintro (⟨k, h1, h2⟩ | h)
      · exact ⟨k, by omega, h2⟩
      · exact ⟨n, by omega, h⟩
    · rintro ⟨k, h1, h2⟩
      by_cases hk : k = n
      · subst hk; exact Or.inr h2
      · exact Or.inl ⟨k, by omega, h2⟩
theorem sm_ge {f : Nat → Nat} {a : Nat} : ∀ n, a < n → f a ≤ fb_sm f n
  | 0, h => absurd h (Nat.not_lt_zero _)
  | n + 1, h => by
    show f a ≤ fb_sm f n + f n
    by_cases ha : a = n
    · subst ha; omega
    · have := sm_ge (f := f) n (by omega : a < n); omega
theorem sm_two {f : Nat → Nat} {a b : Nat} (hab : a ≠ b) : ∀ n, a < n → b < n → f a + f b ≤ fb_sm f n
  | 0, h, _ => absurd h (Nat.not_lt_zero _)
  | n + 1, h1, h2 => by
    show _ ≤ fb_sm f n + f n
    by_cases ha : a = n
    · subst ha; have := sm_ge (f := f) a (by omega : b < a); omega
    · by_cases hb : b = n
      · subst hb; have := sm_ge (f := f) b (by omega : a < b); omega
      · have := sm_two hab (f := f) n (by omega) (by omega); omega
theorem sm_zero {f : Nat → Nat} : ∀ n, (∀ b, b < n → f b = 0) → fb_sm f n = 0
  | 0, _ => rfl
  | n + 1, h => by
    show fb_sm f n + f n = 0
    rw [sm_zero n (fun b hb => h b (by omega)), h n (by omega)]
theorem sm_only {f : Nat → Nat} {a : Nat} : ∀ n, a < n → (∀ b, b < n → b ≠ a → f b = 0) → fb_sm f n = f a
  | 0, h, _ => absurd h (Nat.not_lt_zero _)
  | n + 1, h, hz => by
    show fb_sm f n + f n = f a
    by_cases ha : a = n
    · subst ha
      rw [sm_zero a (fun b hb => hz b (by omega) (by omega)), Nat.zero_add]
    · rw [sm_only n (by omega) (fun b hb hne => hz b (by omega) hne), hz n (by omega) (fun e => ha e.symm), Nat.add_zero]
/-- one bit alone -/
theorem pcN_1 {x a : Nat} (ha : a < 8) (hx : x.testBit a = true) : pcN x = 1 ↔ ∀ b, b < 8 → x.testBit b = true → b = a := by
  unfold pcN
  have h1 : (fun i => if x.testBit i = true then 1 else 0) a = 1 := if_pos hx
  constructor
  · intro h b hb hxb
    refine Classical.byContradiction (fun hne => ?_)
    have h2 : (fun i => if x.testBit i = true then 1 else 0) b = 1 := if_pos hxb
    have h3 := sm_two (f := fun i => if x.testBit i = true then 1 else 0) (fun e => hne e.symm) 8 ha hb
    rw [h] at h3
    have h4 : (if x.testBit a = true then 1 else 0) + (if x.testBit b = true then 1 else 0) ≤ 1 := h3
    rw [if_pos hx, if_pos hxb] at h4
    omega
  · intro h
    rw [sm_only 8 ha (fun b hb hne => if_neg (fun q => hne (h b hb q)))]
    exact h1
theorem prt_tel (hK : K ≤ 8) (hK1 : 1 ≤ K) (hok : ∀ z k, ok z → k < K → ok (stp k z)) (h100 : ∀ z, ok z → z.2.2.1 < 100) : ∀ (n : Nat) (x : Nat → A4) (A v : Nat → Nat), (∀ a, a < K → ok (x a)) → (∀ a b, a < K → ((A a).testBit b = true ↔ S.testBit a = true ∧ S.testBit b = true ∧ b < K ∧ v a = v b)) →
    (prtB stp K S n x A = true ↔ ∃ row, row < (K + 1) ^ n ∧ telP stp K S n row x v) := by
  have hsep : ∀ (A v : Nat → Nat), (∀ a b, a < K → ((A a).testBit b = true ↔ S.testBit a = true ∧ S.testBit b = true ∧ b < K ∧ v a = v b)) → (sepU S A K = true ↔ ∀ a b, a < K → b < a → S.testBit a = true → S.testBit b = true → v a ≠ v b) := by
    intro A v hA
    rw [sepU_iff]
    constructor
    · intro h a b ha hb hsa hsb hv
      have h1 := (pcN_1 (x := A a) (a := a) (by omega) ((hA a a ha).mpr ⟨hsa, hsa, ha, rfl⟩)).mp (h a ha hsa) b (by omega) ((hA a b ha).mpr ⟨hsa, hsb, by omega, hv⟩)
      omega
    · intro h a ha hsa
      refine (pcN_1 (x := A a) (a := a) (by omega) ((hA a a ha).mpr ⟨hsa, hsa, ha, rfl⟩)).mpr (fun b hb hab => ?_)
      obtain ⟨_, hsb, hbK, hv⟩ := (hA a b ha).mp hab
      rcases Nat.lt_trichotomy a b with q | q | q
      · exact absurd hv.symm (h b a hbK q hsb hsa)
      · exact q.symm
      · exact absurd hv (h a b ha q hsa hsb)
  intro n
  induction n with
  | zero =>
    intro x A v hx hA
    show sepU S A K = true ↔ _
    rw [hsep A v hA]
    exact ⟨fun h => ⟨0, by simp, h⟩, fun ⟨_, _, h⟩ => h⟩
  | succ n ih =>
    intro x A v hx hA
    have hN : ∀ key, key < K + 1 → (prtB stp K S n (xN stp K key x) (aN K A (xN stp K key x)) = true ↔ ∃ row, row < (K + 1) ^ n ∧ telP stp K S n row (xN stp K key x) (fun a => 100 * v a + (xN stp K key x a).2.2.1)) := by
      intro key hkey
      have hox : ∀ a, a < K → ok (xN stp K key x a) := fun a ha => hok _ _ (hx a ha) (by split <;> omega)
      refine ih _ _ _ hox (fun a b ha => ?_)
      unfold aN
      rw [bsU_bit]
      unfold lkB
      rw [Bool.and_eq_true, Bool.and_eq_true, hA a b ha]
      constructor
      · rintro ⟨h1, ⟨h2, h3, h4, h5⟩, h6⟩
        have h6 : (xN stp K key x a).2.2.1 = (xN stp K key x b).2.2.1 := by simpa using h6
        exact ⟨h2, h3, h4, by show 100 * v a + _ = 100 * v b + _; rw [h5, h6]⟩
      · rintro ⟨h2, h3, h4, h5⟩
        have h5 : 100 * v a + (xN stp K key x a).2.2.1 = 100 * v b + (xN stp K key x b).2.2.1 := h5
        have h7 := h100 _ (hox a ha)
        have h8 := h100 _ (hox b h4)
        have h9 : v a = v b := by omega
        exact ⟨by simpa using h4, ⟨h2, h3, h4, h9⟩, by simp; omega⟩
    rw [prtB, Bool.or_eq_true, anU_iff, hsep A v hA]
    have hrow : ∀ key row, key < K + 1 → (telP stp K S (n + 1) (key + (K + 1) * row) x v ↔ telP stp K S n row (xN stp K key x) (fun a => 100 * v a + (xN stp K key x a).2.2.1)) := by
      intro key row hkey
      have e1 : (key + (K + 1) * row) % (K + 1) = key := by rw [Nat.add_mul_mod_self_left, Nat.mod_eq_of_lt hkey]
      have e2 : (key + (K + 1) * row) / (K + 1) = row := by rw [Nat.add_mul_div_left _ _ (Nat.succ_pos K), Nat.div_eq_of_lt hkey, Nat.zero_add]
      unfold telP
      simp only [shB, e1, e2]
      rfl
    constructor
    · rintro (h | ⟨key, hkey, h⟩)
      · refine ⟨0, Nat.pow_pos (Nat.succ_pos K), fun a b ha hb hsa hsb => ?_⟩
        exact shB_ne hok h100 ha (by omega) _ _ _ _ _ _ (hx a ha) (hx b (by omega)) (h a b ha hb hsa hsb)
      · obtain ⟨row, hr, ht⟩ := (hN key hkey).mp h
        refine ⟨key + (K + 1) * row, ?_, (hrow key row hkey).mpr ht⟩
        have h1 : (K + 1) * (row + 1) ≤ (K + 1) * (K + 1) ^ n := Nat.mul_le_mul_left _ hr
        rw [Nat.pow_succ, Nat.mul_comm ((K + 1) ^ n)]
        rw [Nat.mul_add] at h1
        omega
    · rintro ⟨row, hr, ht⟩
      have hkey : row % (K + 1) < K + 1 := Nat.mod_lt _ (Nat.succ_pos K)
      refine Or.inr ⟨row % (K + 1), hkey, (hN _ hkey).mpr ⟨row / (K + 1), ?_, ?_⟩⟩
      · rw [Nat.pow_succ, Nat.mul_comm] at hr
        exact Nat.div_lt_of_lt_mul hr
      · rw [← hrow _ _ hkey, Nat.mod_add_div]
        exact ht
end LST
theorem bit_eq : ∀ x, x < 256 → ∀ b, b < 8 → nI x >>> (nI b &&& 31) &&& 1 = nI (if x.testBit b = true then 1 else 0) := by decide +kernel
theorem alk_bit {S K : Nat} (hS : S < 2 ^ K) : ∀ a b, a < K → ((alk S a).testBit b = true ↔ S.testBit a = true ∧ S.testBit b = true ∧ b < K ∧ (fun _ : Nat => 0) a = (fun _ : Nat => 0) b) := by
  intro a b ha
  unfold alk
  have hb : S.testBit b = true → b < K := fun h => by
    refine Classical.byContradiction (fun hc => ?_)
    have h1 : S < 2 ^ b := Nat.lt_of_lt_of_le hS (Nat.pow_le_pow_right (by decide) (by omega))
    rw [Nat.testBit_lt_two_pow h1] at h
    cases h
  by_cases h : S.testBit a = true
  · rw [if_pos h]
    exact ⟨fun q => ⟨h, q, hb q, rfl⟩, fun q => q.2.1⟩
  · rw [if_neg h]
    exact ⟨fun q => by simp at q, fun q => absurd q.1 h⟩
theorem lcmp_0 {x y : Int64} : lg_cmp x y = 0 ↔ x = y := by
  unfold lg_cmp
  by_cases h1 : x > y
  · rw [if_pos h1]
    exact ⟨fun q => absurd q (by decide), fun q => by subst q; exact absurd h1 (Int64.lt_irrefl)⟩
  · rw [if_neg h1]
    by_cases h2 : x = y
    · rw [if_pos h2]; exact ⟨fun _ => h2, fun _ => rfl⟩
    · rw [if_neg h2]; exact ⟨fun q => absurd q (by decide), fun q => absurd q h2⟩
theorem shB_lt {stp : Nat → A4 → A4} {K as : Nat} {ok : A4 → Prop} (hok : ∀ z k, ok z → k < K → ok (stp k z)) (h100 : ∀ z, ok z → z.2.2.1 < 100) (has : as < K) : ∀ n row x v i, ok x → v < 100 ^ i → shB stp K as n row x v < 100 ^ (i + n)
  | 0, _, _, _, _, _, h => h
  | n + 1, row, x, v, i, hx, h => by
    have hk : row % (K + 1) < K + 1 := Nat.mod_lt _ (Nat.succ_pos K)
    have h1 : ok (stp (if row % (K + 1) = K then as else row % (K + 1)) x) := hok _ _ hx (by split <;> omega)
    have h3 := h100 _ h1
    rw [show i + (n + 1) = (i + 1) + n by omega]
    refine shB_lt hok h100 has n _ _ _ (i + 1) h1 ?_
    rw [Nat.pow_succ]
    omega
