set_option maxRecDepth 100000
theorem fb_holes : ∀ (m n : Nat) (f : Nat → Nat), (∀ i, i < n → f i < m) → (∀ i j, i < j → j < n → f i ≠ f j) → n ≤ m := by
  intro m
  induction m with
  | zero =>
    intro n f h1 _
    rcases Nat.eq_zero_or_pos n with h | h
    · omega
    · exact absurd (h1 0 h) (Nat.not_lt_zero _)
  | succ m ih =>
    intro n f h1 h2
    by_cases hx : ∃ i, i < n ∧ f i = m
    · obtain ⟨a, ha, hfa⟩ := hx
      have hg := ih (n - 1) (fun i => if i < a then f i else f (i + 1)) (by
        intro i hi
        by_cases q : i < a
        · simp only [if_pos q]
          have b1 := h1 i (by omega)
          have b2 := h2 i a q ha
          omega
        · simp only [if_neg q]
          have b1 := h1 (i + 1) (by omega)
          have b2 := h2 a (i + 1) (by omega) (by omega)
          omega) (by
        intro i j hij hj
        by_cases q : i < a
        · by_cases r : j < a
          · simp only [if_pos q, if_pos r]
            exact h2 i j hij (by omega)
          · simp only [if_pos q, if_neg r]
            exact h2 i (j + 1) (by omega) (by omega)
        · have r : ¬ j < a := by omega
          simp only [if_neg q, if_neg r]
          exact h2 (i + 1) (j + 1) (by omega) (by omega))
      omega
    · have hg := ih n f (fun i hi => by
        have b1 := h1 i hi
        have b2 : f i ≠ m := fun e => hx ⟨i, hi, e⟩
        omega) h2
      omega
/-- a state that has come: the state, its strokes, whence, by which key -/
abbrev BE : Type := A4 × Nat × A4 × Nat
def bAdd (stp : Nat → A4 → A4) (e : BE) (k : Nat) (L : List BE) : List BE := if L.any (fun x => x.1 == stp k e.1) then L else L ++ [(stp k e.1, e.2.1 + 1, e.1, k)]
def bKeys (stp : Nat → A4 → A4) (e : BE) : Nat → Nat → List BE → List BE
  | 0, _, L => L
  | n + 1, k, L => bKeys stp e n (k + 1) (bAdd stp e k L)
def bRun (stp : Nat → A4 → A4) (K : Nat) : Nat → Nat → List BE → List BE
  | 0, _, L => L
  | n + 1, i, L => match L[i]? with
    | none => L
    | some e => bRun stp K n (i + 1) (bKeys stp e K 0 L)
/-- all that come from a, K keys, at most N states -/
def bAll (stp : Nat → A4 → A4) (K N : Nat) (a : A4) : List BE := bRun stp K (N + 1) 0 [(a, 0, a, 0)]
def bOK (m K : Nat) (L : List BE) : Prop := (∀ (i j : Nat) (e e' : BE), L[i]? = some e → L[j]? = some e' → e.1 = e'.1 → i = j) ∧ (∀ e : BE, e ∈ L → okA m e.1) ∧ (∀ (j : Nat) (e : BE), L[j]? = some e → e.2.1 ≤ j) ∧ ∀ (j : Nat) (e : BE), L[j + 1]? = some e → e.2.2.2 < K ∧ ∃ (i : Nat) (e' : BE), i ≤ j ∧ L[i]? = some e' ∧ e'.1 = e.2.2.1 ∧ e.2.1 = e'.2.1 + 1
theorem bOK.start {m K : Nat} {a : A4} (h : okA m a) : bOK m K [(a, 0, a, 0)] := by
  refine ⟨fun i j e e' hi hj _ => ?_, fun e he => ?_, fun j e hj => ?_, fun j e hj => ?_⟩
  · have h1 := (List.getElem?_eq_some_iff.mp hi).1
    have h2 := (List.getElem?_eq_some_iff.mp hj).1
    simp at h1 h2
    omega
  · simp at he; subst he; exact h
  · have h1 := (List.getElem?_eq_some_iff.mp hj).1
    simp at h1
    subst h1
    simp at hj
    subst hj
    exact Nat.le_refl _
  · simp at hj
theorem any_has {L : List BE} {x : A4} : L.any (fun e => e.1 == x) = true ↔ ∃ e, e ∈ L ∧ e.1 = x := by
  rw [List.any_eq_true]
  constructor
  · rintro ⟨e, h1, h2⟩
    exact ⟨e, h1, by simpa using h2⟩
  · rintro ⟨e, h1, h2⟩
    exact ⟨e, h1, by simpa using h2⟩
theorem bOK.push {m K : Nat} {L : List BE} (h : bOK m K L) {i k : Nat} {e : BE} {x : A4} (hi : L[i]? = some e) (hx : okA m x) (hn : ∀ e', e' ∈ L → e'.1 ≠ x) (hk : k < K) : bOK m K (L ++ [(x, e.2.1 + 1, e.1, k)]) := by
  obtain ⟨h1, h2, h3, h4⟩ := h
  have hil : i < L.length := (List.getElem?_eq_some_iff.mp hi).1
  have key : ∀ (j : Nat) (q : BE), (L ++ [(x, e.2.1 + 1, e.1, k)])[j]? = some q → L[j]? = some q ∨ (j = L.length ∧ q = (x, e.2.1 + 1, e.1, k)) := by
    intro j q hj
    by_cases hl : j < L.length
    · rw [List.getElem?_append_left hl] at hj
      exact Or.inl hj
    · rw [List.getElem?_append_right (by omega)] at hj
      have hz := (List.getElem?_eq_some_iff.mp hj).1
      simp at hz
      rw [hz] at hj
      simp at hj
      exact Or.inr ⟨by omega, hj.symm⟩
  refine ⟨fun a b q q' ha hb hq => ?_, fun q hq => ?_, fun j q hj => ?_, fun j q hj => ?_⟩
  · rcases key a q ha with ha | ⟨ha, ea⟩ <;> rcases key b q' hb with hb | ⟨hb, eb⟩
    · exact h1 a b q q' ha hb hq
    · exact absurd (by rw [hq, eb]) (hn q (List.mem_of_getElem? ha))
    · exact absurd (by rw [← hq, ea]) (hn q' (List.mem_of_getElem? hb))
    · omega
  · rcases List.mem_append.mp hq with hq | hq
    · exact h2 q hq
    · simp at hq
      subst hq
      exact hx
  · rcases key j q hj with hj | ⟨hj, ej⟩
    · exact h3 j q hj
    · subst ej
      have := h3 i e hi
      show e.2.1 + 1 ≤ j
      omega
  · rcases key (j + 1) q hj with hj | ⟨hj, ej⟩
    · obtain ⟨a1, a, q', a2, a3, a4⟩ := h4 j q hj
      exact ⟨a1, a, q', a2, by rw [List.getElem?_append_left (List.getElem?_eq_some_iff.mp a3).1]; exact a3, a4⟩
    · subst ej
      exact ⟨hk, i, e, by omega, by rw [List.getElem?_append_left hil]; exact hi, rfl, rfl⟩
theorem encA_inj {m : Nat} {a b : A4} (ha : okA m a) (hb : okA m b) (h : encA m a = encA m b) : a = b := by rw [← decA_encA ha, ← decA_encA hb, h]
theorem bOK.len {m K : Nat} {L : List BE} (h : bOK m K L) : L.length ≤ 8 * m * m := by
  have hm : ∀ j, j < L.length → ∃ e, L[j]? = some e := fun j hj => ⟨_, List.getElem?_eq_getElem hj⟩
  refine fb_holes (8 * m * m) L.length (fun j => match L[j]? with | some e => encA m e.1 | none => 0) (fun j hj => ?_) (fun i j hij hj he => ?_)
  · obtain ⟨e, q⟩ := hm j hj
    simp only [q]
    exact encA_lt (h.2.1 e (List.mem_of_getElem? q))
  · obtain ⟨e, q⟩ := hm j hj
    obtain ⟨e', q'⟩ := hm i (by omega)
    simp only [q, q'] at he
    have := h.1 i j e' e q' q (encA_inj (h.2.1 e' (List.mem_of_getElem? q')) (h.2.1 e (List.mem_of_getElem? q)) he)
    omega
/-- the first that shows v -/
def bFst (L : List BE) (v : Nat) : Option BE := L.find? (fun e => e.1.2.2.1 == v)
def bFstC (m : Nat) (L : List BE) (v : Nat) : Int32 := match bFst L v with
  | none => -1
  | some e => nI (encA m e.1)
/-- how FewKeys' arrays hold what has come -/
def bRep (m : Nat) (L : List BE) (st rw' bf bk fs : Nat → Int32) : Prop :=
  (∀ (j : Nat) (e : BE), L[j]? = some e → rw' j = nI (encA m e.1) ∧ st (encA m e.1) = nI e.2.1) ∧
  (∀ s, s < 8 * m * m → (∀ e : BE, e ∈ L → encA m e.1 ≠ s) → st s = -1) ∧
  (∀ (j : Nat) (e : BE), L[j + 1]? = some e → bf (encA m e.1) = nI (encA m e.2.2.1) ∧ bk (encA m e.1) = nI e.2.2.2) ∧
  (∀ v, v < m → fs v = bFstC m L v)
theorem bFstC_ne {m K : Nat} {L : List BE} (hm : m ≤ 100) (h : bOK m K L) {v : Nat} {e : BE} (he : bFst L v = some e) : nI (encA m e.1) ≠ -1 := by
  have hl := encA_lt (h.2.1 e (List.mem_of_find?_eq_some he))
  have := mm_le hm
  intro q
  have h2 := congrArg Int32.toInt q
  rw [nI_toInt (by omega), show (-1 : Int32).toInt = -1 by decide] at h2
  omega
theorem bRep.push {m K : Nat} {L : List BE} {st rw' bf bk fs : Nat → Int32} (hm : m ≤ 100) (hO : bOK m K L) (h : bRep m L st rw' bf bk fs) {i k : Nat} {e : BE} {x : A4} (hi : L[i]? = some e) (hx : okA m x) (hn : ∀ e', e' ∈ L → e'.1 ≠ x) :
    bRep m (L ++ [(x, e.2.1 + 1, e.1, k)]) (upd st (encA m x) (nI (e.2.1 + 1))) (upd rw' L.length (nI (encA m x))) (upd bf (encA m x) (nI (encA m e.1))) (upd bk (encA m x) (nI k)) (upd fs x.2.2.1 (if fs x.2.2.1 = -1 then nI (encA m x) else fs x.2.2.1)) := by
  obtain ⟨h1, h2, h3, h4⟩ := h
  have hil : i < L.length := (List.getElem?_eq_some_iff.mp hi).1
  have hne : ∀ q, q ∈ L → encA m q.1 ≠ encA m x := fun q hq hc => hn q hq (encA_inj (hO.2.1 q hq) hx hc)
  have key : ∀ (j : Nat) (q : BE), (L ++ [(x, e.2.1 + 1, e.1, k)])[j]? = some q → (L[j]? = some q ∧ j < L.length) ∨ (j = L.length ∧ q = (x, e.2.1 + 1, e.1, k)) := by
    intro j q hj
    by_cases hl : j < L.length
    · rw [List.getElem?_append_left hl] at hj
      exact Or.inl ⟨hj, hl⟩
    · rw [List.getElem?_append_right (by omega)] at hj
      have hz := (List.getElem?_eq_some_iff.mp hj).1
      simp at hz
      rw [hz] at hj
      simp at hj
      exact Or.inr ⟨by omega, hj.symm⟩
  refine ⟨fun j q hj => ?_, fun s hs hq => ?_, fun j q hj => ?_, fun v hv => ?_⟩
  · rcases key j q hj with ⟨hj, hl⟩ | ⟨hjl, ej⟩
    · rw [pk_un (by omega), pk_un (hne q (List.mem_of_getElem? hj))]
      exact h1 j q hj
    · subst ej
      rw [hjl]
      exact ⟨pk_us, pk_us⟩
  · have hsx : s ≠ encA m x := fun q => hq _ (List.mem_append_right _ (List.mem_singleton.mpr rfl)) q.symm
    rw [pk_un hsx]
    exact h2 s hs (fun q hq' => hq q (List.mem_append_left _ hq'))
  · rcases key (j + 1) q hj with ⟨hj, hl⟩ | ⟨hj, ej⟩
    · rw [pk_un (hne q (List.mem_of_getElem? hj)), pk_un (hne q (List.mem_of_getElem? hj))]
      exact h3 j q hj
    · subst ej
      exact ⟨pk_us, pk_us⟩
  · by_cases hv2 : v = x.2.2.1
    · subst hv2
      rw [pk_us, h4 _ hv]
      unfold bFstC bFst
      rw [List.find?_append]
      cases hf : L.find? (fun e => e.1.2.2.1 == x.2.2.1) with
      | none => simp
      | some e' =>
        have := bFstC_ne hm hO (v := x.2.2.1) hf
        simp [this]
    · rw [pk_un hv2, h4 v hv]
      unfold bFstC bFst
      rw [List.find?_append]
      have : ([(x, e.2.1 + 1, e.1, k)] : List BE).find? (fun e => e.1.2.2.1 == v) = none := by
        have hb : (x.2.2.1 == v) = false := by
          simp only [beq_eq_false_iff_ne, ne_eq]
          exact fun q => hv2 q.symm
        simp only [List.find?, hb]
      rw [this, Option.or_none]
theorem bRun_end {stp : Nat → A4 → A4} {K n i : Nat} {L : List BE} (h : L.length ≤ i) : bRun stp K n i L = L := by
  cases n with
  | zero => rfl
  | succ n => rw [bRun, List.getElem?_eq_none h]
theorem bRun_step {stp : Nat → A4 → A4} {K n i : Nat} {L : List BE} {e : BE} (h : L[i]? = some e) : bRun stp K (n + 1) i L = bRun stp K n (i + 1) (bKeys stp e K 0 L) := by
  rw [bRun, h]

