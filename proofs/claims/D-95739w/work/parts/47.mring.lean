set_option maxRecDepth 100000
/-- a doubly linked row: ln leads on, mo leads back -/
def dlR (ln mo : Nat → Int32) : Int32 → Int32 → List Nat → Prop
  | _, h, [] => h = -1
  | p, h, s :: l => h = nI s ∧ mo s = p ∧ dlR ln mo (nI s) (ln s) l
theorem dlR.cg {ln mo ln' mo' : Nat → Int32} : ∀ {l : List Nat} {p h : Int32}, (∀ s, s ∈ l → ln' s = ln s ∧ mo' s = mo s) → dlR ln mo p h l → dlR ln' mo' p h l
  | [], _, _, _, h => h
  | s :: l, p, hh, hc, h => by
    have h0 := hc s List.mem_cons_self
    refine ⟨h.1, h0.2.trans h.2.1, ?_⟩
    rw [h0.1]
    exact dlR.cg (fun x hx => hc x (List.mem_cons_of_mem _ hx)) h.2.2
/-- another one stands ahead -/
theorem dlR.re {ln mo : Nat → Int32} {b : Nat} {l : List Nat} {p p' h : Int32} (hn : (b :: l).Nodup) (hd : dlR ln mo p h (b :: l)) : dlR ln (upd mo b p') p' h (b :: l) := by
  have hb := (List.nodup_cons.mp hn).1
  exact ⟨hd.1, pk_us, hd.2.2.cg (fun x hx => ⟨rfl, pk_un (fun e => hb (e ▸ hx))⟩)⟩
/-- who stands behind has another ahead of it -/
def moN (mo : Nat → Int32) (p : Int32) : List Nat → (Nat → Int32)
  | [] => mo
  | b :: _ => upd mo b p
theorem dlR.ahead {ln mo : Nat → Int32} {p p' h : Int32} : ∀ {l : List Nat}, l.Nodup → dlR ln mo p h l → dlR ln (moN mo p' l) p' h l
  | [], _, h => h
  | _ :: _, hn, h => h.re hn
theorem moN_off {mo : Nat → Int32} {p : Int32} {x : Nat} : ∀ {l : List Nat}, x ∉ l → moN mo p l x = mo x
  | [], _ => rfl
  | b :: l, h => pk_un (fun e => h (e ▸ List.mem_cons_self))
theorem dlR.mid {ln mo : Nat → Int32} {a s : Nat} {B : List Nat} : ∀ {A : List Nat} {p h : Int32}, (A ++ a :: s :: B).Nodup → dlR ln mo p h (A ++ a :: s :: B) → dlR (upd ln a (ln s)) (moN mo (nI a) B) p h (A ++ a :: B) ∧ mo s = nI a
  | [], p, h, hn, hd => by
    have h1 := List.nodup_cons.mp hn
    have h2 := List.nodup_cons.mp h1.2
    have haB : a ∉ B := fun q => h1.1 (List.mem_cons_of_mem _ q)
    refine ⟨⟨hd.1, (moN_off haB).trans hd.2.1, ?_⟩, hd.2.2.2.1⟩
    rw [pk_us]
    exact (hd.2.2.2.2.ahead h2.2).cg (fun x hx => ⟨pk_un (fun e => haB (e ▸ hx)), rfl⟩)
  | x :: A, p, h, hn, hd => by
    have h1 := List.nodup_cons.mp hn
    have ih := dlR.mid (A := A) h1.2 hd.2.2
    have hxB : x ∉ B := fun q => h1.1 (List.mem_append_right _ (List.mem_cons_of_mem _ (List.mem_cons_of_mem _ q)))
    have hxa : x ≠ a := fun q => h1.1 (q ▸ List.mem_append_right _ List.mem_cons_self)
    refine ⟨⟨hd.1, (moN_off hxB).trans hd.2.1, ?_⟩, ih.2⟩
    rw [pk_un hxa]
    exact ih.1
theorem dlR.behind {ln mo : Nat → Int32} {s : Nat} {B : List Nat} : ∀ {A : List Nat} {p h : Int32}, dlR ln mo p h (A ++ s :: B) → (B = [] ∧ ln s = -1) ∨ ∃ b B', B = b :: B' ∧ ln s = nI b
  | [], p, h, hd => by
    cases B with
    | nil => exact Or.inl ⟨rfl, hd.2.2⟩
    | cons b B' => exact Or.inr ⟨b, B', rfl, hd.2.2.1⟩
  | _ :: A, p, h, hd => dlR.behind (A := A) hd.2.2
/-- s goes out of a row -/
theorem dlR.out {ln mo : Nat → Int32} {s : Nat} {l : List Nat} {h : Int32} (hs : s ∈ l) (hn : l.Nodup) (hb : ∀ x, x ∈ l → x < 80000) (hd : dlR ln mo (-1) h l) :
    ∃ B, (∀ x, x ∈ B → x ∈ l) ∧ B.Nodup ∧ ((B = [] ∧ ln s = -1) ∨ ∃ b B', B = b :: B' ∧ ln s = nI b) ∧
      ((mo s = -1 ∧ dlR ln (moN mo (-1) B) (-1) (ln s) (l.erase s)) ∨ ∃ a, a ∈ l ∧ a ≠ s ∧ mo s = nI a ∧ dlR (upd ln a (ln s)) (moN mo (nI a) B) (-1) h (l.erase s)) := by
  obtain ⟨A, B, hA, hl, he⟩ := List.exists_erase_eq hs
  rw [he]
  subst hl
  have hnB : B.Nodup := (List.nodup_cons.mp ((List.nodup_append.mp hn).2.1)).2
  refine ⟨B, fun x hx => List.mem_append_right _ (List.mem_cons_of_mem _ hx), hnB, hd.behind, ?_⟩
  rcases List.eq_nil_or_concat A with rfl | ⟨A', a, rfl⟩
  · exact Or.inl ⟨hd.2.1, hd.2.2.ahead hnB⟩
  · rw [List.concat_eq_append, List.append_assoc] at hd hn ⊢
    refine Or.inr ⟨a, List.mem_append_left _ (by simp), fun e => hA (by simp [e]), ?_⟩
    have h9 := dlR.mid (A := A') hn hd
    exact ⟨h9.2, h9.1⟩
/-- the rings -/
def RGd (N : Nat) (c : Nat → Option Nat) (R : Nat → List Nat) (hd ln mo : Nat → Int32) : Prop :=
  ∀ q, q < 100 → dlR ln mo (-1) (hd q) (R q) ∧ (R q).Nodup ∧ ∀ s, s ∈ R q → s < N ∧ ∃ d, c s = some d ∧ d % 100 = q
theorem RGd.off {N : Nat} {c : Nat → Option Nat} {R : Nat → List Nat} {hd ln mo : Nat → Int32} (h : RGd N c R hd ln mo) {q q' s : Nat} (hq : q < 100) (hq' : q' < 100) (hne : q' ≠ q) (hs : s ∈ R q) : s ∉ R q' := by
  intro hs'
  obtain ⟨_, d, h1, h2⟩ := (h q hq).2.2 s hs
  obtain ⟨_, d', h3, h4⟩ := (h q' hq').2.2 s hs'
  rw [h1] at h3
  cases h3
  omega
theorem RGd.cg {N : Nat} {c c' : Nat → Option Nat} {R : Nat → List Nat} {hd ln mo : Nat → Int32} (h : RGd N c R hd ln mo) (hc : ∀ q s, q < 100 → s ∈ R q → c' s = c s) : RGd N c' R hd ln mo := fun q hq =>
  ⟨(h q hq).1, (h q hq).2.1, fun s hs => by rw [hc q s hq hs]; exact (h q hq).2.2 s hs⟩
/-- s comes into its ring -/
theorem RGd.put {N : Nat} {c : Nat → Option Nat} {R : Nat → List Nat} {hd ln mo : Nat → Int32} (h : RGd N c R hd ln mo) {s d : Nat} (hs : s < N) (hc : c s = some d) (hno : ∀ q, q < 100 → s ∉ R q) :
    RGd N c (va_up R (d % 100) (s :: R (d % 100))) (upd hd (d % 100) (nI s)) (upd ln s (hd (d % 100))) (moN (upd mo s (-1)) (nI s) (R (d % 100))) := by
  have hq0 : d % 100 < 100 := Nat.mod_lt _ (by decide)
  have h0 := h _ hq0
  have hns := hno _ hq0
  intro q hq
  by_cases he : q = d % 100
  · subst he
    rw [va_up_self, pk_us]
    refine ⟨⟨rfl, (moN_off hns).trans pk_us, ?_⟩, List.nodup_cons.mpr ⟨hns, h0.2.1⟩, fun x hx => ?_⟩
    · rw [pk_us]
      refine dlR.ahead (p := -1) h0.2.1 (h0.1.cg (fun x hx => ?_))
      have hxs : x ≠ s := fun e => hns (e ▸ hx)
      exact ⟨pk_un hxs, pk_un hxs⟩
    · rcases List.mem_cons.mp hx with rfl | hx
      · exact ⟨hs, d, hc, rfl⟩
      · exact h0.2.2 x hx
  · rw [va_up_ne _ _ he, pk_un he]
    refine ⟨(h q hq).1.cg (fun x hx => ?_), (h q hq).2⟩
    have hxs : x ≠ s := fun e => hno q hq (e ▸ hx)
    rw [pk_un hxs, moN_off (h.off hq hq0 (fun e => he e.symm) hx), pk_un hxs]
    exact ⟨rfl, rfl⟩
theorem RGd.take {N : Nat} {c : Nat → Option Nat} {R : Nat → List Nat} {hd ln mo : Nat → Int32} (hN : N ≤ 80000) (h : RGd N c R hd ln mo) {s d : Nat} (hc : c s = some d) (hs : s ∈ R (d % 100)) :
    ∃ B, (∀ x, x ∈ B → x < N) ∧ ((B = [] ∧ ln s = -1) ∨ ∃ b B', B = b :: B' ∧ ln s = nI b) ∧
      ((mo s = -1 ∧ RGd N c (va_up R (d % 100) ((R (d % 100)).erase s)) (upd hd (d % 100) (ln s)) ln (moN mo (-1) B)) ∨
        ∃ a, a < N ∧ a ≠ s ∧ mo s = nI a ∧ RGd N c (va_up R (d % 100) ((R (d % 100)).erase s)) hd (upd ln a (ln s)) (moN mo (nI a) B)) := by
  have hq0 : d % 100 < 100 := Nat.mod_lt _ (by decide)
  have h0 := h _ hq0
  obtain ⟨B, hB, hnB, hb, ho⟩ := dlR.out hs h0.2.1 (fun x hx => by have := (h0.2.2 x hx).1; omega) h0.1
  refine ⟨B, fun x hx => (h0.2.2 x (hB x hx)).1, hb, ?_⟩
  have hme : ∀ x, x ∈ (R (d % 100)).erase s → x < N ∧ ∃ e, c x = some e ∧ e % 100 = d % 100 := fun x hx => h0.2.2 x (List.mem_of_mem_erase hx)
  rcases ho with ⟨h1, h2⟩ | ⟨a, ha, has, h1, h2⟩
  · refine Or.inl ⟨h1, fun q hq => ?_⟩
    by_cases he : q = d % 100
    · subst he
      rw [va_up_self, pk_us]
      exact ⟨h2, h0.2.1.erase s, hme⟩
    · rw [va_up_ne _ _ he, pk_un he]
      refine ⟨(h q hq).1.cg (fun x hx => ⟨rfl, moN_off (fun hxB => ?_)⟩), (h q hq).2⟩
      exact h.off hq hq0 (fun e => he e.symm) hx (hB x hxB)
  · refine Or.inr ⟨a, (h0.2.2 a ha).1, has, h1, fun q hq => ?_⟩
    by_cases he : q = d % 100
    · subst he
      rw [va_up_self]
      exact ⟨h2, h0.2.1.erase s, hme⟩
    · rw [va_up_ne _ _ he]
      refine ⟨(h q hq).1.cg (fun x hx => ⟨?_, moN_off (fun hxB => ?_)⟩), (h q hq).2⟩
      · exact pk_un (fun e => h.off hq hq0 (fun e => he e.symm) hx (e ▸ ha))
      · exact h.off hq hq0 (fun e => he e.symm) hx (hB x hxB)
/-- Dijkstra's rings: c costs, R rings, P who has gone on -/
def dkI (st : Nat → Nat → Nat) (K : Nat) (w : Nat → Nat) (B : Nat → Nat → Prop) (N : Nat) (ex : Nat → Nat → Prop) (cost : Nat) (c : Nat → Option Nat) (R : Nat → List Nat) (P : List Nat) : Prop :=
  (∀ q s, q < 100 → s ∈ R q → s < N ∧ ∃ d, c s = some d ∧ d % 100 = q ∧ cost ≤ d ∧ d ≤ cost + 99) ∧
  (P.Nodup ∧ ∀ x, x ∈ P → x < N ∧ (∀ q, q < 100 → x ∉ R q) ∧ ∃ d, c x = some d ∧ d ≤ cost) ∧
  (∀ x d, x < N → c x = some d → rchN st K w B x d ∧ (x ∈ P ∨ x ∈ R (d % 100))) ∧
  (∀ x n, B x n → x < N ∧ ∃ d, c x = some d ∧ d ≤ n) ∧
  ∀ x k, x ∈ P → k < K → ex x k ∨ ∃ d d', c x = some d ∧ c (st k x) = some d' ∧ d' ≤ d + w k
section DK
variable {st : Nat → Nat → Nat} {K : Nat} {w : Nat → Nat} {B : Nat → Nat → Prop} {N cost : Nat} {c : Nat → Option Nat} {R : Nat → List Nat} {P : List Nat} {s j : Nat}
theorem dkI.start {s0 : Nat} (hs : s0 < N) : dkI st K w (fun x n => x = s0 ∧ n = 0) N (fun _ _ => False) 0 (va_up (fun _ => none) s0 (some 0)) (va_up (fun _ => []) 0 [s0]) [] := by
  refine ⟨fun q s hq h => ?_, ⟨List.nodup_nil, fun x hx => absurd hx List.not_mem_nil⟩, fun x d hx h => ?_, fun x n h => ?_, fun x k hx => absurd hx List.not_mem_nil⟩
  · by_cases hq0 : q = 0
    · subst hq0
      rw [va_up_self] at h
      rw [List.mem_singleton.mp h]
      exact ⟨hs, 0, va_up_self _ _ _, rfl, Nat.le_refl _, by omega⟩
    · rw [va_up_ne _ _ hq0] at h
      exact absurd h List.not_mem_nil
  · by_cases hx0 : x = s0
    · subst hx0
      rw [va_up_self] at h
      cases h
      exact ⟨⟨0, rfl, rfl⟩, Or.inr (by show x ∈ va_up (fun _ => []) 0 [x] 0; rw [va_up_self]; exact List.mem_singleton.mpr rfl)⟩
    · rw [va_up_ne _ _ hx0] at h
      cases h
  · obtain ⟨rfl, rfl⟩ := h
    exact ⟨hs, 0, va_up_self _ _ _, Nat.le_refl _⟩
theorem dkI.pop (h : dkI st K w B N (fun _ _ => False) cost c R P) (hn : (R (cost % 100)).Nodup) (hs : s ∈ R (cost % 100)) :
    dkI st K w B N (spE s 0) cost c (va_up R (cost % 100) ((R (cost % 100)).erase s)) (s :: P) ∧ c s = some cost ∧ s < N ∧ s ∉ P := by
  have hq0 : cost % 100 < 100 := Nat.mod_lt _ (by decide)
  obtain ⟨h1, h2, h3, h4, h5⟩ := h
  obtain ⟨hsN, d, hd, hd1, hd2, hd3⟩ := h1 _ s hq0 hs
  have hdc : d = cost := by omega
  subst hdc
  have hsP : s ∉ P := fun q => (h2.2 s q).2.1 _ hq0 hs
  have hsub : ∀ q x, q < 100 → x ∈ va_up R (d % 100) ((R (d % 100)).erase s) q → x ∈ R q := by
    intro q x hq hx
    by_cases he : q = d % 100
    · subst he; rw [va_up_self] at hx; exact List.mem_of_mem_erase hx
    · rw [va_up_ne _ _ he] at hx; exact hx
  have hsn : ∀ q, q < 100 → s ∉ va_up R (d % 100) ((R (d % 100)).erase s) q := by
    intro q hq hx
    by_cases he : q = d % 100
    · subst he; rw [va_up_self] at hx; exact hn.not_mem_erase hx
    · rw [va_up_ne _ _ he] at hx
      obtain ⟨_, d', e1, e2, _⟩ := h1 q s hq hx
      rw [hd] at e1; cases e1; omega
  refine ⟨⟨fun q x hq hx => h1 q x hq (hsub q x hq hx), ⟨List.nodup_cons.mpr ⟨hsP, h2.1⟩, fun x hx => ?_⟩, fun x e hx he => ?_, h4, fun x k hx hk => ?_⟩, hd, hsN, hsP⟩
  · rcases List.mem_cons.mp hx with rfl | hx
    · exact ⟨hsN, hsn, d, hd, Nat.le_refl _⟩
    · exact ⟨(h2.2 x hx).1, fun q hq hxq => (h2.2 x hx).2.1 q hq (hsub q x hq hxq), (h2.2 x hx).2.2⟩
  · refine ⟨(h3 x e hx he).1, ?_⟩
    rcases (h3 x e hx he).2 with q | q
    · exact Or.inl (List.mem_cons_of_mem _ q)
    · by_cases hxs : x = s
      · subst hxs; exact Or.inl List.mem_cons_self
      · refine Or.inr ?_
        by_cases hq : e % 100 = d % 100
        · rw [hq, va_up_self]
          rw [hq] at q
          exact (List.mem_erase_of_ne hxs).mpr q
        · rw [va_up_ne _ _ hq]; exact q
  · rcases List.mem_cons.mp hx with rfl | hx
    · exact Or.inl ⟨rfl, Nat.zero_le _⟩
    · rcases h5 x k hx hk with q | q
      · exact q.elim
      · exact Or.inr q
theorem dkI.fin (h : dkI st K w B N (spE s K) cost c R P) : dkI st K w B N (fun _ _ => False) cost c R P := by
  refine ⟨h.1, h.2.1, h.2.2.1, h.2.2.2.1, fun x k hx hk => Or.inr ?_⟩
  rcases h.2.2.2.2 x k hx hk with q | q
  · exact absurd q.2 (by omega)
  · exact q
theorem dkI.skip (h : dkI st K w B N (spE s j) cost c R P) {d' : Nat} (hc : c s = some cost) (h1 : c (st j s) = some d') (h2 : d' ≤ cost + w j) : dkI st K w B N (spE s (j + 1)) cost c R P := by
  refine ⟨h.1, h.2.1, h.2.2.1, h.2.2.2.1, fun x k hx hk => ?_⟩
  rcases h.2.2.2.2 x k hx hk with ⟨q1, q2⟩ | q
  · by_cases hkj : k = j
    · subst hkj; subst q1; exact Or.inr ⟨_, _, hc, h1, h2⟩
    · exact Or.inl ⟨q1, by omega⟩
  · exact Or.inr q
theorem dkI.put (h : dkI st K w B N (spE s j) cost c R P) (hjK : j < K) (hsN : s < N) (hc : c s = some cost) (hw : 1 ≤ w j ∧ w j ≤ 99) (hto : st j s < N) (hn : ∀ d', c (st j s) = some d' → cost + w j < d') {R1 : Nat → List Nat} (hR1 : ∀ q x, q < 100 → (x ∈ R1 q ↔ x ∈ R q ∧ x ≠ st j s)) :
    dkI st K w B N (spE s (j + 1)) cost (va_up c (st j s) (some (cost + w j))) (va_up R1 ((cost + w j) % 100) (st j s :: R1 ((cost + w j) % 100))) P ∧ va_up c (st j s) (some (cost + w j)) s = some cost := by
  obtain ⟨h1, h2, h3, h4, h5⟩ := h
  have hq0 : (cost + w j) % 100 < 100 := Nat.mod_lt _ (by decide)
  have hsto : s ≠ st j s := fun e => by have := hn cost (by rw [← e]; exact hc); omega
  have hcs : va_up c (st j s) (some (cost + w j)) s = some cost := by rw [va_up_ne _ _ hsto]; exact hc
  have htP : st j s ∉ P := fun q => by
    obtain ⟨_, _, d, e1, e2⟩ := h2.2 _ q
    have := hn d e1
    omega
  have hmem : ∀ q x, q < 100 → (x ∈ va_up R1 ((cost + w j) % 100) (st j s :: R1 ((cost + w j) % 100)) q ↔ (x = st j s ∧ q = (cost + w j) % 100) ∨ (x ∈ R q ∧ x ≠ st j s)) := by
    intro q x hq
    by_cases he : q = (cost + w j) % 100
    · subst he
      rw [va_up_self, List.mem_cons, hR1 _ _ hq]
      exact ⟨fun z => z.elim (fun z => Or.inl ⟨z, rfl⟩) Or.inr, fun z => z.elim (fun z => Or.inl z.1) Or.inr⟩
    · rw [va_up_ne _ _ he, hR1 _ _ hq]
      exact ⟨Or.inr, fun z => z.elim (fun z => absurd z.2 he) id⟩
  refine ⟨⟨fun q x hq hx => ?_, ⟨h2.1, fun x hx => ?_⟩, fun x d hx hd => ?_, fun x n hb => ?_, fun x k hx hk => ?_⟩, hcs⟩
  · rcases (hmem q x hq).mp hx with ⟨rfl, rfl⟩ | ⟨hx, hne⟩
    · exact ⟨hto, _, va_up_self _ _ _, rfl, by omega, by omega⟩
    · rw [va_up_ne _ _ hne]; exact h1 q x hq hx
  · have hne : x ≠ st j s := fun e => htP (e ▸ hx)
    refine ⟨(h2.2 x hx).1, fun q hq hm => ?_, ?_⟩
    · rcases (hmem q x hq).mp hm with ⟨e, _⟩ | ⟨e, _⟩
      · exact hne e
      · exact (h2.2 x hx).2.1 q hq e
    · rw [va_up_ne _ _ hne]; exact (h2.2 x hx).2.2
  · by_cases hne : x = st j s
    · subst hne
      rw [va_up_self] at hd
      cases hd
      exact ⟨(h3 s cost hsN hc).1.step hjK, Or.inr ((hmem _ _ hq0).mpr (Or.inl ⟨rfl, rfl⟩))⟩
    · rw [va_up_ne _ _ hne] at hd
      refine ⟨(h3 x d hx hd).1, ?_⟩
      rcases (h3 x d hx hd).2 with q | q
      · exact Or.inl q
      · exact Or.inr ((hmem _ _ (Nat.mod_lt _ (by decide))).mpr (Or.inr ⟨q, hne⟩))
  · obtain ⟨e1, d, e2, e3⟩ := h4 x n hb
    refine ⟨e1, ?_⟩
    by_cases hne : x = st j s
    · subst hne
      have := hn d e2
      exact ⟨_, va_up_self _ _ _, by omega⟩
    · rw [va_up_ne _ _ hne]; exact ⟨d, e2, e3⟩
  · have hne : x ≠ st j s := fun e => htP (e ▸ hx)
    rw [va_up_ne _ _ hne]
    rcases h5 x k hx hk with ⟨q1, q2⟩ | ⟨d, d', e1, e2, e3⟩
    · by_cases hkj : k = j
      · subst hkj; subst q1; exact Or.inr ⟨cost, _, hc, va_up_self _ _ _, Nat.le_refl _⟩
      · exact Or.inl ⟨q1, by omega⟩
    · by_cases hk2 : st k x = st j s
      · rw [hk2, va_up_self]
        rw [hk2] at e2
        have := hn d' e2
        exact Or.inr ⟨d, _, e1, rfl, by omega⟩
      · rw [va_up_ne _ _ hk2]
        exact Or.inr ⟨d, d', e1, e2, e3⟩
theorem dkI.next (h : dkI st K w B N (fun _ _ => False) cost c R P) (he : R (cost % 100) = []) : dkI st K w B N (fun _ _ => False) (cost + 1) c R P := by
  refine ⟨fun q s hq hs => ?_, ⟨h.2.1.1, fun x hx => ?_⟩, h.2.2⟩
  · obtain ⟨e1, d, e2, e3, e4, e5⟩ := h.1 q s hq hs
    refine ⟨e1, d, e2, e3, ?_, by omega⟩
    by_cases hd : d = cost
    · subst hd
      rw [← e3, he] at hs
      exact absurd hs List.not_mem_nil
    · omega
  · obtain ⟨e1, e2, d, e3, e4⟩ := h.2.1.2 x hx
    exact ⟨e1, e2, d, e3, by omega⟩
theorem dkI.far (h : dkI st K w B N (fun _ _ => False) cost c R P) (hst : ∀ x k, x < N → k < K → st k x < N) : ∀ i x n, rchL st K w B i x n → x < N ∧ ((x ∈ P ∧ ∃ d, c x = some d ∧ d ≤ n) ∨ (cost ≤ n ∧ ∃ q, q < 100 ∧ R q ≠ []))
  | 0, x, n, hr => by
    obtain ⟨hx, d, e1, e2⟩ := h.2.2.2.1 x n hr
    refine ⟨hx, ?_⟩
    rcases (h.2.2.1 x d hx e1).2 with q | q
    · exact Or.inl ⟨q, d, e1, e2⟩
    · have hq0 : d % 100 < 100 := Nat.mod_lt _ (by decide)
      obtain ⟨_, d', f1, f2, f3, f4⟩ := h.1 _ x hq0 q
      rw [e1] at f1
      cases f1
      exact Or.inr ⟨by omega, d % 100, hq0, List.ne_nil_of_mem q⟩
  | i + 1, x, n, hr => by
    obtain ⟨y, v, k, hy, hk, rfl, rfl⟩ := hr
    obtain ⟨hyN, ih⟩ := dkI.far h hst i y v hy
    refine ⟨hst y k hyN hk, ?_⟩
    rcases ih with ⟨hyP, d, e1, e2⟩ | ⟨e1, e2⟩
    · rcases h.2.2.2.2 y k hyP hk with q | ⟨d1, d', g1, g2, g3⟩
      · exact q.elim
      · rw [e1] at g1
        cases g1
        rcases (h.2.2.1 _ d' (hst y k hyN hk) g2).2 with q | q
        · exact Or.inl ⟨q, d', g2, by omega⟩
        · have hq0 : d' % 100 < 100 := Nat.mod_lt _ (by decide)
          obtain ⟨_, d2, f1, f2, f3, f4⟩ := h.1 _ _ hq0 q
          rw [g2] at f1
          cases f1
          exact Or.inr ⟨by omega, d' % 100, hq0, List.ne_nil_of_mem q⟩
    · exact Or.inr ⟨by omega, e2⟩
end DK
theorem RGd.nil {N : Nat} {c : Nat → Option Nat} {R : Nat → List Nat} {hd ln mo : Nat → Int32} (hN : N ≤ 80000) (h : RGd N c R hd ln mo) {q : Nat} (hq : q < 100) (he : hd q = -1) : R q = [] := by
  have h1 := h q hq
  cases hl : R q with
  | nil => rfl
  | cons b l =>
    rw [hl] at h1
    have hb := (h1.2.2 b List.mem_cons_self).1
    exact absurd (h1.1.1.symm.trans he) (nI_m1 (by omega))
theorem RGd.cons {N : Nat} {c : Nat → Option Nat} {R : Nat → List Nat} {hd ln mo : Nat → Int32} (h : RGd N c R hd ln mo) {q : Nat} (hq : q < 100) (he : ¬ hd q = -1) : ∃ b l, R q = b :: l ∧ hd q = nI b ∧ b < N := by
  have h1 := h q hq
  cases hl : R q with
  | nil =>
    rw [hl] at h1
    exact absurd h1.1 he
  | cons b l =>
    rw [hl] at h1
    exact ⟨b, l, rfl, h1.1.1, (h1.2.2 b List.mem_cons_self).1⟩
