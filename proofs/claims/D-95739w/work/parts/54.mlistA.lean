set_option maxRecDepth 100000
/-- in a row of sources (state, strokes), each when it is its turn: f strokes, P gone on from, Q waiting -/
def lbI (st : Nat → Nat → Nat) (K N T : Nat) (SR : List (Nat × Nat)) (ex : Nat → Nat → Prop) (f : Nat → Nat) (P Q : List Nat) (t : Nat) : Prop :=
  ((P ++ Q).Nodup ∧ ∀ x, x ∈ P ++ Q → x < N) ∧
  (∀ x, x ∈ P ++ Q → rchN st K (fun _ => 1) (fun x n => (x, n) ∈ SR) x (f x)) ∧
  (P ++ Q).Pairwise (fun x y => f x ≤ f y) ∧
  (∀ x y, x ∈ Q → y ∈ P ++ Q → f y ≤ f x + 1) ∧
  (∀ j e, t ≤ j → SR[j]? = some e → ∀ y, y ∈ P ++ Q → f y ≤ e.2) ∧
  (∀ x k, x ∈ P → k < K → ex x k ∨ (st k x ∈ P ++ Q ∧ f (st k x) ≤ f x + 1)) ∧
  (∀ j e, j < t → SR[j]? = some e → e.1 ∈ P ++ Q ∧ f e.1 ≤ e.2) ∧
  ∀ j x, (P ++ Q)[j]? = some x → f x ≤ T + j
def lbO (N T : Nat) (SR : List (Nat × Nat)) : Prop := SR.Pairwise (fun e e' => e.2 ≤ e'.2) ∧ ∀ e, e ∈ SR → e.1 < N ∧ e.2 ≤ T
section LB
variable {st : Nat → Nat → Nat} {K N T t : Nat} {SR : List (Nat × Nat)} {ex : Nat → Nat → Prop} {f : Nat → Nat} {P Q : List Nat} {s j : Nat}
theorem lbI.start : lbI st K N T SR (fun _ _ => False) f [] [] 0 := by
  refine ⟨⟨List.nodup_nil, fun x h => absurd h List.not_mem_nil⟩, fun x h => absurd h List.not_mem_nil, List.Pairwise.nil, fun x y h => absurd h List.not_mem_nil, fun j e _ _ y h => absurd h List.not_mem_nil, fun x k h => absurd h List.not_mem_nil, fun j e h => absurd h (Nat.not_lt_zero _), fun j x h => ?_⟩
  simp at h
theorem lbI.len (h : lbI st K N T SR ex f P Q t) : P.length + Q.length ≤ N := by
  have := nodup_le N (P ++ Q) h.1.1 h.1.2
  rw [List.length_append] at this
  exact this
theorem lbI.len1 (h : lbI st K N T SR ex f P Q t) (hs : s < N) (hn : s ∉ P ++ Q) : P.length + Q.length + 1 ≤ N := by
  have := nodup_le N (s :: (P ++ Q)) (List.nodup_cons.mpr ⟨hn, h.1.1⟩) (fun x hx => by
    rcases List.mem_cons.mp hx with rfl | hx
    · exact hs
    · exact h.1.2 x hx)
  rw [List.length_cons, List.length_append] at this
  exact this
theorem lbO.mono (hO : lbO N T SR) {i j : Nat} {e e' : Nat × Nat} (hij : i ≤ j) (hi : SR[i]? = some e) (hj : SR[j]? = some e') : e.2 ≤ e'.2 := by
  rcases Nat.lt_or_ge i j with q | q
  · obtain ⟨a1, a2⟩ := List.getElem?_eq_some_iff.mp hi
    obtain ⟨b1, b2⟩ := List.getElem?_eq_some_iff.mp hj
    have := (List.pairwise_iff_getElem.mp hO.1) i j a1 b1 q
    rw [a2, b2] at this
    exact this
  · have : i = j := by omega
    subst this
    rw [hi] at hj
    cases hj
    exact Nat.le_refl _
/-- a source that has come already -/
theorem lbI.old (h : lbI st K N T SR ex f P Q t) {e : Nat × Nat} (he : SR[t]? = some e) (hm : e.1 ∈ P ++ Q) : lbI st K N T SR ex f P Q (t + 1) := by
  obtain ⟨h1, h2, h3, h4, h5, h6, h7, h8⟩ := h
  refine ⟨h1, h2, h3, h4, fun j e' hj hq => h5 j e' (by omega) hq, h6, fun j e' hj hq => ?_, h8⟩
  by_cases hjt : j = t
  · subst hjt
    rw [he] at hq
    cases hq
    exact ⟨hm, h5 j e (Nat.le_refl _) he e.1 hm⟩
  · exact h7 j e' (by omega) hq
theorem mem_ins {x : Nat} : x ∈ P ++ s :: Q ↔ x = s ∨ x ∈ P ++ Q := by
  rw [List.mem_append, List.mem_cons, List.mem_append]
  exact ⟨fun h => h.elim (fun h => Or.inr (Or.inl h)) (fun h => h.elim Or.inl (fun h => Or.inr (Or.inr h))), fun h => h.elim (fun h => Or.inr (Or.inl h)) (fun h => h.elim Or.inl (fun h => Or.inr (Or.inr h)))⟩
theorem nodup_ins (h : (P ++ Q).Nodup) (hs : s ∉ P ++ Q) : (P ++ s :: Q).Nodup := by
  rw [List.nodup_append] at h ⊢
  refine ⟨h.1, List.nodup_cons.mpr ⟨fun q => hs (List.mem_append_right _ q), h.2.1⟩, fun a ha b hb e => ?_⟩
  rcases List.mem_cons.mp hb with rfl | hb
  · subst e; exact hs (List.mem_append_left _ ha)
  · exact h.2.2 a ha b hb e
/-- a source that comes -/
theorem lbI.src (h : lbI st K N T SR ex f P Q t) (hO : lbO N T SR) {e : Nat × Nat} (he : SR[t]? = some e) (hm : e.1 ∉ P ++ Q) (hq : ∀ x, x ∈ Q → e.2 ≤ f x) : lbI st K N T SR ex (va_up f e.1 e.2) P (e.1 :: Q) (t + 1) := by
  obtain ⟨h1, h2, h3, h4, h5, h6, h7, h8⟩ := h
  have hmem := List.mem_of_getElem? he
  have hne : ∀ x, x ∈ P ++ Q → va_up f e.1 e.2 x = f x := fun x hx => va_up_ne _ _ (fun q => hm (q ▸ hx))
  have hself : va_up f e.1 e.2 e.1 = e.2 := va_up_self _ _ _
  refine ⟨⟨nodup_ins h1.1 hm, fun x hx => ?_⟩, fun x hx => ?_, ?_, fun x y hx hy => ?_, fun j e' hj hq' y hy => ?_, fun x k hx hk => ?_, fun j e' hj hq' => ?_, fun j x hj => ?_⟩
  · rcases mem_ins.mp hx with rfl | hx
    · exact (hO.2 e hmem).1
    · exact h1.2 x hx
  · rcases mem_ins.mp hx with rfl | hx
    · rw [hself]; exact ⟨0, hmem⟩
    · rw [hne x hx]; exact h2 x hx
  · rw [List.pairwise_append] at h3 ⊢
    refine ⟨h3.1.imp_of_mem (fun {a b} ha hb hab => by rw [hne a (List.mem_append_left _ ha), hne b (List.mem_append_left _ hb)]; exact hab), List.pairwise_cons.mpr ⟨fun b hb => ?_, h3.2.1.imp_of_mem (fun {a b} ha hb hab => by rw [hne a (List.mem_append_right _ ha), hne b (List.mem_append_right _ hb)]; exact hab)⟩, fun a ha b hb => ?_⟩
    · rw [hself, hne b (List.mem_append_right _ hb)]; exact hq b hb
    · rw [hne a (List.mem_append_left _ ha)]
      rcases List.mem_cons.mp hb with rfl | hb
      · rw [hself]; exact h5 t e (Nat.le_refl _) he a (List.mem_append_left _ ha)
      · rw [hne b (List.mem_append_right _ hb)]; exact h3.2.2 a ha b hb
  · rcases List.mem_cons.mp hx with rfl | hx
    · rw [hself]
      rcases mem_ins.mp hy with rfl | hy
      · rw [hself]; omega
      · rw [hne y hy]; have := h5 t e (Nat.le_refl _) he y hy; omega
    · rw [hne x (List.mem_append_right _ hx)]
      rcases mem_ins.mp hy with rfl | hy
      · rw [hself]; have := hq x hx; omega
      · rw [hne y hy]; exact h4 x y hx hy
  · rcases mem_ins.mp hy with rfl | hy
    · rw [hself]; exact hO.mono (by omega) he hq'
    · rw [hne y hy]; exact h5 j e' (by omega) hq' y hy
  · rw [hne x (List.mem_append_left _ hx)]
    rcases h6 x k hx hk with q | ⟨q1, q2⟩
    · exact Or.inl q
    · exact Or.inr ⟨mem_ins.mpr (Or.inr q1), by rw [hne _ q1]; exact q2⟩
  · by_cases hjt : j = t
    · subst hjt
      rw [he] at hq'
      cases hq'
      exact ⟨mem_ins.mpr (Or.inl rfl), Nat.le_of_eq hself⟩
    · have := h7 j e' (by omega) hq'
      exact ⟨mem_ins.mpr (Or.inr this.1), by rw [hne _ this.1]; exact this.2⟩
  · by_cases hx : x = e.1
    · subst hx; rw [hself]; have := (hO.2 e hmem).2; omega
    · rw [va_up_ne _ _ hx]
      by_cases hjP : j < P.length
      · rw [List.getElem?_append_left hjP] at hj
        exact h8 j x (by rw [List.getElem?_append_left hjP]; exact hj)
      · rw [List.getElem?_append_right (by omega)] at hj
        cases hd : j - P.length with
        | zero =>
          rw [hd] at hj
          simp at hj
          exact absurd hj.symm hx
        | succ d =>
          rw [hd, List.getElem?_cons_succ] at hj
          have := h8 (P.length + d) x (by rw [List.getElem?_append_right (by omega), Nat.add_sub_cancel_left]; exact hj)
          omega
/-- while s goes on -/
def lbS (SR : List (Nat × Nat)) (f : Nat → Nat) (P Q : List Nat) (t s : Nat) : Prop := s ∈ P ∧ (∀ y, y ∈ P ++ Q → f y ≤ f s + 1) ∧ (∀ x, x ∈ Q → f s ≤ f x) ∧ (∀ j e, t ≤ j → SR[j]? = some e → f s + 1 ≤ e.2) ∧ ∃ i, i < P.length ∧ P[i]? = some s
theorem lbI.pop (h : lbI st K N T SR (fun _ _ => False) f P (s :: Q) t) (hs : ∀ j e, t ≤ j → SR[j]? = some e → f s + 1 ≤ e.2) : lbI st K N T SR (spE s 0) f (P ++ [s]) Q t ∧ lbS SR f (P ++ [s]) Q t s := by
  have ha : P ++ [s] ++ Q = P ++ s :: Q := by rw [List.append_assoc]; rfl
  obtain ⟨h1, h2, h3, h4, h5, h6, h7, h8⟩ := h
  refine ⟨?_, List.mem_append_right _ (List.mem_singleton.mpr rfl), ?_, fun x hx => ?_, hs, P.length, by simp, by simp⟩
  · unfold lbI
    rw [ha]
    refine ⟨h1, h2, h3, fun x y hx hy => h4 x y (List.mem_cons_of_mem _ hx) hy, h5, fun x k hx hk => ?_, h7, h8⟩
    rcases List.mem_append.mp hx with hx | hx
    · rcases h6 x k hx hk with q | q
      · exact q.elim
      · exact Or.inr q
    · exact Or.inl ⟨List.mem_singleton.mp hx, Nat.zero_le _⟩
  · rw [ha]
    exact fun y hy => h4 s y List.mem_cons_self hy
  · exact (List.pairwise_cons.mp (List.pairwise_append.mp h3).2.1).1 x hx
theorem lbI.fin (h : lbI st K N T SR (spE s K) f P Q t) : lbI st K N T SR (fun _ _ => False) f P Q t := by
  refine ⟨h.1, h.2.1, h.2.2.1, h.2.2.2.1, h.2.2.2.2.1, fun x k hx hk => Or.inr ?_, h.2.2.2.2.2.2⟩
  rcases h.2.2.2.2.2.1 x k hx hk with q | q
  · exact absurd q.2 (by omega)
  · exact q
theorem lbI.skip (h : lbI st K N T SR (spE s j) f P Q t) (hS : lbS SR f P Q t s) (hm : st j s ∈ P ++ Q) : lbI st K N T SR (spE s (j + 1)) f P Q t := by
  refine ⟨h.1, h.2.1, h.2.2.1, h.2.2.2.1, h.2.2.2.2.1, fun x k hx hk => ?_, h.2.2.2.2.2.2⟩
  rcases h.2.2.2.2.2.1 x k hx hk with ⟨q1, q2⟩ | q
  · by_cases hkj : k = j
    · subst hkj; subst q1; exact Or.inr ⟨hm, hS.2.1 _ hm⟩
    · exact Or.inl ⟨q1, by omega⟩
  · exact Or.inr q
theorem lbI.push (h : lbI st K N T SR (spE s j) f P Q t) (hS : lbS SR f P Q t s) (hjK : j < K) (hto : st j s < N) (hm : st j s ∉ P ++ Q) : lbI st K N T SR (spE s (j + 1)) (va_up f (st j s) (f s + 1)) P (Q ++ [st j s]) t ∧ lbS SR (va_up f (st j s) (f s + 1)) P (Q ++ [st j s]) t s := by
  obtain ⟨h1, h2, h3, h4, h5, h6, h7, h8⟩ := h
  obtain ⟨g1, g2, g3, g4, i, g5, g6⟩ := hS
  have hne : ∀ x, x ∈ P ++ Q → va_up f (st j s) (f s + 1) x = f x := fun x hx => va_up_ne _ _ (fun q => hm (q ▸ hx))
  have hself : va_up f (st j s) (f s + 1) (st j s) = f s + 1 := va_up_self _ _ _
  have hsP : s ∈ P ++ Q := List.mem_append_left _ g1
  have ha : P ++ (Q ++ [st j s]) = (P ++ Q) ++ [st j s] := (List.append_assoc _ _ _).symm
  have hmem : ∀ x, x ∈ P ++ (Q ++ [st j s]) ↔ x = st j s ∨ x ∈ P ++ Q := fun x => by
    rw [ha, List.mem_append, List.mem_singleton]
    exact ⟨fun q => q.elim Or.inr Or.inl, fun q => q.elim Or.inr Or.inl⟩
  refine ⟨⟨⟨?_, fun x hx => ?_⟩, fun x hx => ?_, ?_, fun x y hx hy => ?_, fun j' e' hj hq' y hy => ?_, fun x k hx hk => ?_, fun j' e' hj hq' => ?_, fun j' x hj => ?_⟩, g1, fun y hy => ?_, fun x hx => ?_, fun j' e' hj hq' => ?_, i, g5, g6⟩
  · rw [ha, List.nodup_append]
    exact ⟨h1.1, List.nodup_cons.mpr ⟨List.not_mem_nil, List.nodup_nil⟩, fun a ha b hb e => hm (by rw [List.mem_singleton.mp hb] at e; exact e ▸ ha)⟩
  · rcases (hmem x).mp hx with rfl | hx
    · exact hto
    · exact h1.2 x hx
  · rcases (hmem x).mp hx with rfl | hx
    · rw [hself]; exact (h2 s hsP).step hjK
    · rw [hne x hx]; exact h2 x hx
  · rw [ha, List.pairwise_append]
    refine ⟨h3.imp_of_mem (fun {a b} ha hb hab => by rw [hne a ha, hne b hb]; exact hab), List.pairwise_singleton _ _, fun a ha b hb => ?_⟩
    rw [List.mem_singleton.mp hb, hself, hne a ha]
    exact g2 a ha
  · have hx2 : f s ≤ va_up f (st j s) (f s + 1) x := by
      rcases List.mem_append.mp hx with hx | hx
      · rw [hne x (List.mem_append_right _ hx)]; exact g3 x hx
      · rw [List.mem_singleton.mp hx, hself]; omega
    rcases (hmem y).mp hy with rfl | hy
    · rw [hself]; omega
    · rw [hne y hy]; have := g2 y hy; omega
  · rcases (hmem y).mp hy with rfl | hy
    · rw [hself]; exact g4 j' e' hj hq'
    · rw [hne y hy]; exact h5 j' e' hj hq' y hy
  · rw [hne x (List.mem_append_left _ hx)]
    rcases h6 x k hx hk with ⟨q1, q2⟩ | ⟨q1, q2⟩
    · by_cases hkj : k = j
      · subst hkj; subst q1; exact Or.inr ⟨(hmem _).mpr (Or.inl rfl), Nat.le_of_eq hself⟩
      · exact Or.inl ⟨q1, by omega⟩
    · exact Or.inr ⟨(hmem _).mpr (Or.inr q1), by rw [hne _ q1]; exact q2⟩
  · have := h7 j' e' hj hq'
    exact ⟨(hmem _).mpr (Or.inr this.1), by rw [hne _ this.1]; exact this.2⟩
  · rw [ha] at hj
    by_cases hjl : j' < (P ++ Q).length
    · rw [List.getElem?_append_left hjl] at hj
      rw [hne x (List.mem_of_getElem? hj)]
      exact h8 j' x hj
    · rw [List.getElem?_append_right (by omega)] at hj
      have hz := (List.getElem?_eq_some_iff.mp hj).1
      simp at hz
      have hz2 : j' - (P ++ Q).length = 0 := by rw [List.length_append]; omega
      rw [hz2] at hj
      simp at hj
      subst hj
      rw [hself]
      have := h8 i s (by rw [List.getElem?_append_left g5]; exact g6)
      rw [List.length_append] at hjl
      omega
  · rw [hne s hsP]
    rcases (hmem y).mp hy with rfl | hy
    · rw [hself]; exact Nat.le_refl _
    · rw [hne y hy]; exact g2 y hy
  · rw [hne s hsP]
    rcases List.mem_append.mp hx with hx | hx
    · rw [hne x (List.mem_append_right _ hx)]; exact g3 x hx
    · rw [List.mem_singleton.mp hx, hself]; omega
  · rw [hne s hsP]; exact g4 j' e' hj hq'
/-- in the end f is the least -/
theorem lbI.least (h : lbI st K N T SR (fun _ _ => False) f P [] SR.length) : ∀ i x n, rchL st K (fun _ => 1) (fun x n => (x, n) ∈ SR) i x n → x ∈ P ∧ f x ≤ n := by
  obtain ⟨h1, h2, h3, h4, h5, h6, h7, h8⟩ := h
  rw [List.append_nil] at *
  intro i
  induction i with
  | zero =>
    intro x n hr
    obtain ⟨j, hj⟩ := List.getElem?_of_mem (show (x, n) ∈ SR from hr)
    exact h7 j (x, n) (List.getElem?_eq_some_iff.mp hj).1 hj
  | succ i ih =>
    intro x n hr
    obtain ⟨y, v, k, hy, hk, rfl, rfl⟩ := hr
    obtain ⟨q1, q2⟩ := ih y v hy
    rcases h6 y k q1 hk with q | ⟨q3, q4⟩
    · exact q.elim
    · exact ⟨q3, by show f (st k y) ≤ v + 1; omega⟩
end LB
/-- stage by stage: so many targets shown one behind the other -/
def stgN (st : Nat → Nat → Nat) (K x0 : Nat) (sh : Nat → Nat) (tg : Nat → Nat) : Nat → Nat → Nat → Prop
  | 0, x, n => x = x0 ∧ n = 0
  | i + 1, x, n => rchN st K (fun _ => 1) (stgN st K x0 sh tg i) x n ∧ sh x = tg i
section SG
variable {st : Nat → Nat → Nat} {K x0 : Nat} {sh tg : Nat → Nat} {w : Nat → Nat}
theorem rchL.mono {B B' : Nat → Nat → Prop} (h : ∀ x n, B x n → rchN st K w B' x n) : ∀ i x n, rchL st K w B i x n → rchN st K w B' x n
  | 0, x, n, hr => h x n hr
  | i + 1, x, n, hr => by
    obtain ⟨y, v, k, hy, hk, rfl, rfl⟩ := hr
    exact (rchL.mono h i y v hy).step hk
theorem rchN.mono {B B' : Nat → Nat → Prop} (h : ∀ x n, B x n → rchN st K w B' x n) {x n : Nat} (hr : rchN st K w B x n) : rchN st K w B' x n := by
  obtain ⟨i, hi⟩ := hr
  exact rchL.mono h i x n hi
theorem rchL.dom {B B' : Nat → Nat → Prop} (h : ∀ x n, B x n → ∃ n', n' ≤ n ∧ rchN st K w B' x n') : ∀ i x n, rchL st K w B i x n → ∃ n', n' ≤ n ∧ rchN st K w B' x n'
  | 0, x, n, hr => h x n hr
  | i + 1, x, n, hr => by
    obtain ⟨y, v, k, hy, hk, rfl, rfl⟩ := hr
    obtain ⟨n', h1, h2⟩ := rchL.dom h i y v hy
    exact ⟨n' + w k, by omega, h2.step hk⟩
theorem stgN.same {i j : Nat} (hij : i + 1 ≤ j) (h : ∀ q, i ≤ q → q < j → tg q = tg i) : ∀ x n, stgN st K x0 sh tg j x n ↔ stgN st K x0 sh tg (i + 1) x n := by
  obtain ⟨d, rfl⟩ : ∃ d, j = i + 1 + d := ⟨j - (i + 1), by omega⟩
  clear hij
  induction d with
  | zero => exact fun x n => Iff.rfl
  | succ d ih =>
    have ih := ih (fun q h1 h2 => h q h1 (by omega))
    intro x n
    have ht := h (i + 1 + d) (by omega) (by omega)
    constructor
    · rintro ⟨h1, h2⟩
      refine ⟨h1.mono (fun y v hy => ((ih y v).mp hy).1), h2.trans ht⟩
    · intro hx
      exact ⟨⟨0, (ih x n).mpr hx⟩, hx.2.trans ht.symm⟩
theorem stgN.first {j : Nat} (h : ∀ q, q < j → tg q = sh x0) : stgN st K x0 sh tg j x0 0 ∧ ∀ x n, stgN st K x0 sh tg j x n → rchN st K (fun _ => 1) (stgN st K x0 sh tg 0) x n := by
  induction j with
  | zero => exact ⟨⟨rfl, rfl⟩, fun x n hx => ⟨0, hx⟩⟩
  | succ j ih =>
    have ih := ih (fun q hq => h q (by omega))
    exact ⟨⟨⟨0, ih.1⟩, (h j (by omega)).symm⟩, fun x n hx => hx.1.mono ih.2⟩
theorem stgN.none {i j : Nat} (hij : i ≤ j) (h : ∀ x n, ¬ stgN st K x0 sh tg i x n) : ∀ x n, ¬ stgN st K x0 sh tg j x n := by
  obtain ⟨d, rfl⟩ : ∃ d, j = i + d := ⟨j - i, by omega⟩
  clear hij
  induction d with
  | zero => exact h
  | succ d ih =>
    rintro x n ⟨⟨i', h1⟩, _⟩
    have : ∀ i' x n, ¬ rchL st K (fun _ => 1) (stgN st K x0 sh tg (i + d)) i' x n := by
      intro i'
      induction i' with
      | zero => exact ih
      | succ i' ih2 =>
        rintro x n ⟨y, v, k, hy, _⟩
        exact ih2 y v hy
    exact this i' x n h1
/-- how sources stand for a stage -/
def srcI (st : Nat → Nat → Nat) (K x0 : Nat) (sh tg : Nat → Nat) (had : Nat) (SR : List (Nat × Nat)) : Prop :=
  (∀ x d, (x, d) ∈ SR → rchN st K (fun _ => 1) (stgN st K x0 sh tg had) x d) ∧ ∀ x n, stgN st K x0 sh tg had x n → ∃ n', n' ≤ n ∧ rchN st K (fun _ => 1) (fun x n => (x, n) ∈ SR) x n'
theorem srcI.first {j : Nat} (h : ∀ q, q < j → tg q = sh x0) : srcI st K x0 sh tg j [(x0, 0)] := by
  obtain ⟨h1, h2⟩ := stgN.first (st := st) (K := K) h
  refine ⟨fun x d hx => ?_, fun x n hx => ⟨n, Nat.le_refl _, (h2 x n hx).mono (fun y v hy => ⟨0, ?_⟩)⟩⟩
  · cases List.mem_singleton.mp hx
    exact ⟨0, h1⟩
  · rw [hy.1, hy.2]; exact List.mem_singleton.mpr rfl
/-- the next stage's sources -/
def srcN (f : Nat → Nat) (sh : Nat → Nat) (v : Nat) (L : List Nat) : List (Nat × Nat) := (L.filter (fun x => sh x == v)).map (fun x => (x, f x))
theorem mem_srcN {f : Nat → Nat} {v x d : Nat} {L : List Nat} : (x, d) ∈ srcN f sh v L ↔ x ∈ L ∧ sh x = v ∧ d = f x := by
  unfold srcN
  rw [List.mem_map]
  constructor
  · rintro ⟨y, hy, e⟩
    have h1 := List.mem_filter.mp hy
    cases e
    exact ⟨h1.1, by simpa using h1.2, rfl⟩
  · rintro ⟨h1, h2, h3⟩
    exact ⟨x, List.mem_filter.mpr ⟨h1, by simpa using h2⟩, by rw [h3]⟩
theorem srcI.next {N T had had2 : Nat} {SR : List (Nat × Nat)} {f : Nat → Nat} {P : List Nat} (hI : srcI st K x0 sh tg had SR) (h : lbI st K N T SR (fun _ _ => False) f P [] SR.length) (hh : had + 1 ≤ had2) (ht : ∀ q, had ≤ q → q < had2 → tg q = tg had) :
    srcI st K x0 sh tg had2 (srcN f sh (tg had) P) ∧ (∀ x d, (x, d) ∈ srcN f sh (tg had) P → stgN st K x0 sh tg had2 x d) ∧ ∀ x n, stgN st K x0 sh tg had2 x n → ∃ d, d ≤ n ∧ (x, d) ∈ srcN f sh (tg had) P := by
  have hs := stgN.same (st := st) (K := K) (x0 := x0) (sh := sh) hh ht
  have hl := h.least
  have k1 : ∀ x d, (x, d) ∈ srcN f sh (tg had) P → stgN st K x0 sh tg had2 x d := by
    intro x d hx
    obtain ⟨h1, h2, h3⟩ := mem_srcN.mp hx
    rw [hs, h3]
    exact ⟨(h.2.1 x (List.mem_append_left _ h1)).mono (fun y v hy => hI.1 y v hy), h2⟩
  have k2 : ∀ x n, stgN st K x0 sh tg had2 x n → ∃ d, d ≤ n ∧ (x, d) ∈ srcN f sh (tg had) P := by
    intro x n hx
    obtain ⟨⟨i, hi⟩, h2⟩ := (hs x n).mp hx
    obtain ⟨n', h3, i', h4⟩ := rchL.dom hI.2 i x n hi
    obtain ⟨q1, q2⟩ := hl i' x n' h4
    exact ⟨f x, by omega, mem_srcN.mpr ⟨q1, h2, rfl⟩⟩
  exact ⟨⟨fun x d hx => ⟨0, k1 x d hx⟩, fun x n hx => by obtain ⟨d, h1, h2⟩ := k2 x n hx; exact ⟨d, h1, 0, h2⟩⟩, k1, k2⟩
theorem lbO.next {N T : Nat} {SR : List (Nat × Nat)} {f : Nat → Nat} {P : List Nat} {v : Nat} (h : lbI st K N T SR (fun _ _ => False) f P [] SR.length) : lbO N (T + N) (srcN f sh v P) := by
  obtain ⟨h1, h2, h3, h4, h5, h6, h7, h8⟩ := h
  rw [List.append_nil] at *
  refine ⟨?_, fun e he => ?_⟩
  · unfold srcN
    rw [List.pairwise_map]
    exact h3.filter _
  · obtain ⟨x, d⟩ := e
    obtain ⟨q1, q2, q3⟩ := mem_srcN.mp he
    refine ⟨h1.2 x q1, ?_⟩
    obtain ⟨j, hj⟩ := List.getElem?_of_mem q1
    have h9 := h8 j x hj
    have h10 := nodup_le N P h1.1 h1.2
    have h11 := (List.getElem?_eq_some_iff.mp hj).1
    show d ≤ _
    omega
end SG
def lnR (L : List Nat) (ln : Nat → Int32) : Prop := ∀ j x, L[j]? = some x → ln j = nI x
def frR (N : Nat) (f : Nat → Nat) (L : List Nat) (fr : Nat → Int32) : Prop := ∀ s, s < N → (s ∈ L → fr s = nI (f s)) ∧ (s ∉ L → fr s = -1)
def srR (SR : List (Nat × Nat)) (mo by' : Nat → Int32) : Prop := ∀ j e, SR[j]? = some e → mo j = nI e.1 ∧ by' j = nI e.2
theorem lnR.push {L : List Nat} {ln : Nat → Int32} (h : lnR L ln) (x : Nat) : lnR (L ++ [x]) (upd ln L.length (nI x)) := by
  intro j y hj
  by_cases hl : j < L.length
  · rw [List.getElem?_append_left hl] at hj
    rw [pk_un (by omega)]
    exact h j y hj
  · rw [List.getElem?_append_right (by omega)] at hj
    have hz := (List.getElem?_eq_some_iff.mp hj).1
    simp at hz
    rw [hz] at hj
    simp at hj
    have e : j = L.length := by omega
    rw [e, pk_us, hj]
theorem lnR.ins {P Q : List Nat} {ln ln' : Nat → Int32} {s : Nat} (h : lnR (P ++ Q) ln) (h1 : ∀ j, j < P.length → ln' j = ln j) (h2 : ln' P.length = nI s) (h3 : ∀ j, P.length < j → j ≤ P.length + Q.length → ln' j = ln (j - 1)) : lnR (P ++ s :: Q) ln' := by
  intro j y hj
  by_cases hl : j < P.length
  · rw [List.getElem?_append_left hl] at hj
    rw [h1 j hl]
    exact h j y (by rw [List.getElem?_append_left hl]; exact hj)
  · rw [List.getElem?_append_right (by omega)] at hj
    cases hd : j - P.length with
    | zero =>
      rw [hd] at hj
      simp at hj
      have e : j = P.length := by omega
      rw [e, h2, hj]
    | succ d =>
      rw [hd, List.getElem?_cons_succ] at hj
      have hdl := (List.getElem?_eq_some_iff.mp hj).1
      rw [h3 j (by omega) (by omega)]
      refine h (j - 1) y ?_
      rw [List.getElem?_append_right (by omega), show j - 1 - P.length = d by omega]
      exact hj
theorem frR.up {N : Nat} {f : Nat → Nat} {L L' : List Nat} {fr : Nat → Int32} (h : frR N f L fr) (s d : Nat) (hL : ∀ x, x ∈ L' ↔ x = s ∨ x ∈ L) : frR N (va_up f s d) L' (upd fr s (nI d)) := by
  intro x hx
  by_cases he : x = s
  · subst he
    rw [pk_us, va_up_self]
    exact ⟨fun _ => rfl, fun q => absurd ((hL x).mpr (Or.inl rfl)) q⟩
  · rw [pk_un he, va_up_ne _ _ he]
    exact ⟨fun q => (h x hx).1 (((hL x).mp q).resolve_left he), fun q => (h x hx).2 (fun z => q ((hL x).mpr (Or.inr z)))⟩
theorem frR.cg {N : Nat} {f : Nat → Nat} {L L' : List Nat} {fr : Nat → Int32} (h : frR N f L fr) (hL : ∀ x, x ∈ L' ↔ x ∈ L) : frR N f L' fr := fun x hx => ⟨fun q => (h x hx).1 ((hL x).mp q), fun q => (h x hx).2 (fun z => q ((hL x).mpr z))⟩
theorem rch_toG {kd bs m K : Nat} {ks : Nat → KY} {w : Nat → Nat} {PN : Nat → Nat → Prop} {PA : A4 → Nat → Prop} (hD : okD kd bs m) (hks : ∀ k, k < K → okK bs m (ks k)) (h : ∀ x n, PN x n → x < 8 * m * m ∧ PA (decM m x) n) : ∀ i x n, rchL (fun k x => encM m (stk kd bs m (ks k) (decM m x))) K w PN i x n → x < 8 * m * m ∧ rcA (fun k a => stk kd bs m (ks k) a) K w PA i (decM m x) n
  | 0, x, n, hr => h x n hr
  | i + 1, x, n, hr => by
    obtain ⟨y, v, k, hy, hk, rfl, rfl⟩ := hr
    obtain ⟨h1, h2⟩ := rch_toG hD hks h i y v hy
    have h3 := stk_ok hD (hks k hk) (decM_ok hD.pos h1)
    refine ⟨encM_lt h3, ?_⟩
    show rcA _ _ _ _ (i + 1) (decM m (encM m _)) _
    rw [decM_encM h3]
    exact ⟨_, v, k, h2, hk, rfl, rfl⟩
theorem rch_ofG {kd bs m K : Nat} {ks : Nat → KY} {w : Nat → Nat} {PN : Nat → Nat → Prop} {PA : A4 → Nat → Prop} (hD : okD kd bs m) (hks : ∀ k, k < K → okK bs m (ks k)) (h : ∀ a n, PA a n → okA m a ∧ PN (encM m a) n) : ∀ i b n, rcA (fun k a => stk kd bs m (ks k) a) K w PA i b n → okA m b ∧ rchL (fun k x => encM m (stk kd bs m (ks k) (decM m x))) K w PN i (encM m b) n
  | 0, x, n, hr => h x n hr
  | i + 1, x, n, hr => by
    obtain ⟨y, v, k, hy, hk, rfl, rfl⟩ := hr
    obtain ⟨h1, h2⟩ := rch_ofG hD hks h i y v hy
    have h3 := stk_ok hD (hks k hk) h1
    refine ⟨h3, _, v, k, h2, hk, ?_, rfl⟩
    show _ = encM m (stk kd bs m (ks k) (decM m (encM m y)))
    rw [decM_encM h1]
theorem stg_link {kd bs m K : Nat} {ks : Nat → KY} {a0 : A4} {tg : Nat → Nat} (hD : okD kd bs m) (hks : ∀ k, k < K → okK bs m (ks k)) (ha : okA m a0) : ∀ i, (∀ x n, stgN (fun k x => encM m (stk kd bs m (ks k) (decM m x))) K (encM m a0) (fun x => x / 8 / m) tg i x n → x < 8 * m * m ∧ stgA (fun k a => stk kd bs m (ks k) a) K a0 tg i (decM m x) n) ∧ ∀ b n, stgA (fun k a => stk kd bs m (ks k) a) K a0 tg i b n → okA m b ∧ stgN (fun k x => encM m (stk kd bs m (ks k) (decM m x))) K (encM m a0) (fun x => x / 8 / m) tg i (encM m b) n
  | 0 => ⟨fun x n h => ⟨by rw [h.1]; exact encM_lt ha, by rw [h.1, decM_encM ha]; exact ⟨rfl, h.2⟩⟩, fun b n h => ⟨by rw [h.1]; exact ha, by rw [h.1]; exact ⟨rfl, h.2⟩⟩⟩
  | i + 1 => by
    obtain ⟨h1, h2⟩ := stg_link hD hks ha i
    refine ⟨fun x n h => ?_, fun b n h => ?_⟩
    · obtain ⟨⟨j, hj⟩, hs⟩ := h
      obtain ⟨q1, q2⟩ := rch_toG hD hks h1 j x n hj
      exact ⟨q1, ⟨j, q2⟩, hs⟩
    · obtain ⟨⟨j, hj⟩, hs⟩ := h
      obtain ⟨q1, q2⟩ := rch_ofG hD hks h2 j b n hj
      exact ⟨q1, ⟨j, q2⟩, (congrArg (fun z : A4 => z.2.2.1) (decM_encM q1)).trans hs⟩
