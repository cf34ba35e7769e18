set_option maxRecDepth 100000
/-- what can be reached at which cost, by how many strokes -/
def rchL (st : Nat → Nat → Nat) (K : Nat) (w : Nat → Nat) (B : Nat → Nat → Prop) : Nat → Nat → Nat → Prop
  | 0, x, n => B x n
  | i + 1, x, n => ∃ y v k, rchL st K w B i y v ∧ k < K ∧ x = st k y ∧ n = v + w k
def rchN (st : Nat → Nat → Nat) (K : Nat) (w : Nat → Nat) (B : Nat → Nat → Prop) (x n : Nat) : Prop := ∃ i, rchL st K w B i x n
theorem rchN.step {st : Nat → Nat → Nat} {K : Nat} {w : Nat → Nat} {B : Nat → Nat → Prop} {x n k : Nat} (h : rchN st K w B x n) (hk : k < K) : rchN st K w B (st k x) (n + w k) := by
  obtain ⟨i, hi⟩ := h
  exact ⟨i + 1, x, n, k, hi, hk, rfl, rfl⟩
def spI (st : Nat → Nat → Nat) (K : Nat) (w : Nat → Nat) (B : Nat → Nat → Prop) (N FR : Nat) (ex : Nat → Nat → Prop) (c : Nat → Nat) (q : List Nat) : Prop :=
  q.Nodup ∧ (∀ x, x ∈ q → x < N) ∧ (∀ x, x < N → c x ≤ FR ∧ (c x < FR → rchN st K w B x (c x))) ∧ (∀ x n, B x n → c x ≤ n) ∧ ∀ x k, x < N → k < K → x ∉ q → ex x k ∨ c (st k x) ≤ c x + w k
def spE (x0 j : Nat) : Nat → Nat → Prop := fun x k => x = x0 ∧ j ≤ k
def spQ (q : List Nat) (t : Nat) : List Nat := if t ∈ q then q else q ++ [t]
theorem nodup_le : ∀ (N : Nat) (q : List Nat), q.Nodup → (∀ x, x ∈ q → x < N) → q.length ≤ N := by
  intro N
  induction N with
  | zero =>
    intro q _ h
    cases q with
    | nil => exact Nat.le_refl _
    | cons a l => exact absurd (h a List.mem_cons_self) (Nat.not_lt_zero _)
  | succ N ih =>
    intro q hq h
    have h1 := ih (q.erase N) (hq.erase N) (fun x hx => by
      have hm := List.mem_of_mem_erase hx
      have hne : x ≠ N := fun e => by subst e; exact hq.not_mem_erase hx
      have := h x hm
      omega)
    have h2 : q.length ≤ (q.erase N).length + 1 := by
      rw [List.length_erase]
      split <;> omega
    omega
section SP
variable {st : Nat → Nat → Nat} {K : Nat} {w : Nat → Nat} {B : Nat → Nat → Prop} {N FR : Nat} {c : Nat → Nat} {q : List Nat} {x0 j : Nat}
theorem spI.pop (h : spI st K w B N FR (fun _ _ => False) c (x0 :: q)) : spI st K w B N FR (spE x0 0) c q ∧ x0 ∉ q ∧ x0 < N := by
  obtain ⟨h1, h2, h3, h4, h5⟩ := h
  have hn := List.nodup_cons.mp h1
  refine ⟨⟨hn.2, fun x hx => h2 x (List.mem_cons_of_mem _ hx), h3, h4, fun x k hx hk hq => ?_⟩, hn.1, h2 x0 List.mem_cons_self⟩
  by_cases he : x = x0
  · exact Or.inl ⟨he, Nat.zero_le _⟩
  · rcases h5 x k hx hk (fun hm => (List.mem_cons.mp hm).elim he hq) with q1 | q1
    · exact q1.elim
    · exact Or.inr q1
theorem spI.fin (h : spI st K w B N FR (spE x0 K) c q) : spI st K w B N FR (fun _ _ => False) c q := by
  obtain ⟨h1, h2, h3, h4, h5⟩ := h
  refine ⟨h1, h2, h3, h4, fun x k hx hk hq => Or.inr ?_⟩
  rcases h5 x k hx hk hq with q1 | q1
  · exact absurd q1.2 (by omega)
  · exact q1
theorem spI.skip (h : spI st K w B N FR (spE x0 j) c q) (hc : c (st j x0) ≤ c x0 + w j) : spI st K w B N FR (spE x0 (j + 1)) c q := by
  obtain ⟨h1, h2, h3, h4, h5⟩ := h
  refine ⟨h1, h2, h3, h4, fun x k hx hk hq => ?_⟩
  rcases h5 x k hx hk hq with ⟨q1, q2⟩ | q1
  · by_cases hkj : k = j
    · subst hkj; subst q1; exact Or.inr hc
    · exact Or.inl ⟨q1, by omega⟩
  · exact Or.inr q1
theorem spQ_mem {t x : Nat} : x ∈ spQ q t ↔ x ∈ q ∨ x = t := by
  unfold spQ
  split
  · exact ⟨Or.inl, fun h => h.elim id (fun e => by subst e; assumption)⟩
  · simp
theorem spQ_nodup {t : Nat} (h : q.Nodup) : (spQ q t).Nodup := by
  unfold spQ
  split
  · exact h
  · rename_i hn
    rw [List.nodup_append]
    refine ⟨h, by simp, fun a ha b hb => ?_⟩
    simp at hb
    subst hb
    exact fun e => hn (e ▸ ha)
theorem spI.take (hst : ∀ k x, k < K → x < N → st k x < N) (h : spI st K w B N FR (spE x0 j) c q) (hj : j < K) (hx0 : x0 < N) (hq0 : x0 ∉ q) (hc : c x0 + w j < c (st j x0)) : spI st K w B N FR (spE x0 (j + 1)) (va_up c (st j x0) (c x0 + w j)) (spQ q (st j x0)) ∧ x0 ∉ spQ q (st j x0) ∧ va_up c (st j x0) (c x0 + w j) x0 = c x0 := by
  obtain ⟨h1, h2, h3, h4, h5⟩ := h
  have hne : x0 ≠ st j x0 := fun e => by rw [← e] at hc; omega
  have ht := hst j x0 hj hx0
  have hle : ∀ x, va_up c (st j x0) (c x0 + w j) x ≤ c x := fun x => by
    by_cases hx : x = st j x0
    · rw [hx, va_up_self]; omega
    · rw [va_up_ne _ _ hx]; exact Nat.le_refl _
  refine ⟨⟨spQ_nodup h1, fun x hx => ?_, fun x hx => ?_, fun x n hb => Nat.le_trans (hle x) (h4 x n hb), fun x k hx hk hq => ?_⟩, ?_, va_up_ne _ _ hne⟩
  · rcases spQ_mem.mp hx with q1 | q1
    · exact h2 x q1
    · rw [q1]; exact ht
  · by_cases hxt : x = st j x0
    · subst hxt
      rw [va_up_self]
      have h6 := (h3 _ ht).1
      have h7 := (h3 x0 hx0).2 (by omega)
      exact ⟨by omega, fun _ => rchN.step h7 hj⟩
    · rw [va_up_ne _ _ hxt]
      exact h3 x hx
  · have hxq : x ∉ q := fun hm => hq (spQ_mem.mpr (Or.inl hm))
    have hxt : x ≠ st j x0 := fun e => hq (spQ_mem.mpr (Or.inr e))
    rw [va_up_ne _ _ hxt]
    rcases h5 x k hx hk hxq with ⟨q1, q2⟩ | q1
    · by_cases hkj : k = j
      · subst hkj; subst q1
        rw [va_up_self]
        exact Or.inr (Nat.le_refl _)
      · exact Or.inl ⟨q1, by omega⟩
    · exact Or.inr (Nat.le_trans (hle _) q1)
  · exact fun hm => (spQ_mem.mp hm).elim hq0 hne
theorem sp_less {t v : Nat} (ht : t < N) (hv : v < c t) : fb_sm (va_up c t v) N < fb_sm c N := by
  have h := fb_sm_upd c v (i := t) ht
  have e : fb_sm (va_up c t v) N = fb_sm (fun k => if k = t then v else c k) N := fb_sm_cong (fun k _ => by
    by_cases hk : k = t
    · rw [hk, va_up_self, if_pos rfl]
    · rw [va_up_ne _ _ hk, if_neg hk])
  omega
theorem spQ_len {t : Nat} : (spQ q t).length ≤ q.length + 1 := by
  unfold spQ
  split
  · omega
  · simp
theorem spI.len (h : spI st K w B N FR (spE x0 j) c q) (hx0 : x0 < N) (hq0 : x0 ∉ q) : q.length < N := by
  have := nodup_le N (x0 :: q) (List.nodup_cons.mpr ⟨hq0, h.1⟩) (fun x hx => (List.mem_cons.mp hx).elim (fun e => e ▸ hx0) (h.2.1 x))
  simp at this
  omega
/-- the answer: the least costs, cut at FR -/
def spD (st : Nat → Nat → Nat) (K : Nat) (w : Nat → Nat) (B : Nat → Nat → Prop) (N FR : Nat) (c : Nat → Nat) : Prop := ∀ x, x < N → c x ≤ FR ∧ (c x < FR → rchN st K w B x (c x)) ∧ ∀ n, rchN st K w B x n → c x ≤ n
theorem spI.done (hst : ∀ k x, k < K → x < N → st k x < N) (hB : ∀ x n, B x n → x < N) (h : spI st K w B N FR (fun _ _ => False) c []) : spD st K w B N FR c := by
  obtain ⟨h1, h2, h3, h4, h5⟩ := h
  have key : ∀ x n, rchN st K w B x n → x < N ∧ c x ≤ n := by
    intro x n ⟨i, hr⟩
    induction i generalizing x n with
    | zero => exact ⟨hB _ _ hr, h4 _ _ hr⟩
    | succ i ih =>
      obtain ⟨y, v, k, hy, hk, rfl, rfl⟩ := hr
      have ih := ih y v hy
      refine ⟨hst _ _ hk ih.1, ?_⟩
      rcases h5 _ _ ih.1 hk (by simp) with q1 | q1
      · exact q1.elim
      · omega
  exact fun x hx => ⟨(h3 x hx).1, (h3 x hx).2, fun n hn => (key x n hn).2⟩
end SP
/-- the row of waiting states in its ring -/
def rgR (hd : Nat) (q : List Nat) (rw' : Nat → Int32) : Prop := ∀ i x, q[i]? = some x → rw' ((hd + i) % 80000) = nI x
def wtR (N : Nat) (q : List Nat) (wa : Nat → Int32) : Prop := ∀ x, x < N → wa x = if x ∈ q then 1 else 0
theorem rgR.pop {hd x0 : Nat} {q : List Nat} {rw' : Nat → Int32} (h : rgR hd (x0 :: q) rw') : rgR ((hd + 1) % 80000) q rw' := by
  intro i x hi
  have := h (i + 1) x (by simpa using hi)
  rw [show ((hd + 1) % 80000 + i) % 80000 = (hd + (i + 1)) % 80000 by omega]
  exact this
theorem rgR.push {hd t : Nat} {q : List Nat} {rw' : Nat → Int32} (h : rgR hd q rw') (hl : q.length < 80000) : rgR hd (q ++ [t]) (upd rw' ((hd + q.length) % 80000) (nI t)) := by
  intro i x hi
  by_cases hiq : i < q.length
  · rw [List.getElem?_append_left hiq] at hi
    rw [pk_un (by omega)]
    exact h i x hi
  · rw [List.getElem?_append_right (by omega)] at hi
    have h0 := (List.getElem?_eq_some_iff.mp hi).1
    simp at h0
    have hil : i = q.length := by omega
    subst hil
    simp at hi
    subst hi
    exact pk_us
theorem wtR.pop {N x0 : Nat} {q : List Nat} {wa : Nat → Int32} (h : wtR N (x0 :: q) wa) (hn : x0 ∉ q) : wtR N q (upd wa x0 0) := by
  intro x hx
  by_cases he : x = x0
  · subst he
    rw [pk_us, if_neg hn]
  · rw [pk_un he, h x hx]
    by_cases hq : x ∈ q
    · rw [if_pos hq, if_pos (List.mem_cons_of_mem _ hq)]
    · rw [if_neg hq, if_neg (fun hm => (List.mem_cons.mp hm).elim he hq)]
theorem wtR.push {N t : Nat} {q : List Nat} {wa : Nat → Int32} (h : wtR N q wa) : wtR N (q ++ [t]) (upd wa t 1) := by
  intro x hx
  by_cases he : x = t
  · subst he
    rw [pk_us, if_pos (by simp)]
  · rw [pk_un he, h x hx]
    by_cases hq : x ∈ q
    · rw [if_pos hq, if_pos (by simp [hq])]
    · rw [if_neg hq, if_neg (by simp [hq, he])]
theorem nI_ring {a : Nat} (h : a < 2 ^ 31) : nI a - nI a / 80000 * 80000 = nI (a % 80000) := pk_rem (d := 80000) h (by decide) (by decide)

