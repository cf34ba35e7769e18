set_option maxRecDepth 100000
theorem encM_inj {m : Nat} {a b : A4} (ha : okA m a) (hb : okA m b) (h : encM m a = encM m b) : a = b := by rw [← decM_encM ha, ← decM_encM hb, h]
def mFew (L : List BE) (v : Nat) : Int32 := match bFst L v with
  | none => -1
  | some e => nI e.2.1
/-- how the model's arrays hold what has come; of i it is known what they show -/
def mRep (m : Nat) (L : List BE) (i : Nat) (fr ln by' fw fs : Nat → Int32) : Prop :=
  (∀ (j : Nat) (e : BE), L[j]? = some e → ln j = nI (encM m e.1) ∧ fr (encM m e.1) = nI e.2.1) ∧
  (∀ s, s < 8 * m * m → (∀ e : BE, e ∈ L → encM m e.1 ≠ s) → fr s = -1) ∧
  (∀ (j : Nat) (e : BE), L[j + 1]? = some e → by' (encM m e.1) = nI (80000 * e.2.2.2 + encM m e.2.2.1)) ∧
  (∀ v, v < m → fw v = mFew (L.take i) v) ∧ ∀ v e, v < m → bFst (L.take i) v = some e → fs v = nI (encM m e.1)
theorem mRep.push {m K : Nat} {L : List BE} {n : Nat} {fr ln by' fw fs : Nat → Int32} (hO : bOK m K L) (h : mRep m L n fr ln by' fw fs) (hnL : n ≤ L.length) {i k : Nat} {e : BE} {x : A4} (hi : L[i]? = some e) (hx : okA m x) (hn : ∀ e', e' ∈ L → e'.1 ≠ x) :
    mRep m (L ++ [(x, e.2.1 + 1, e.1, k)]) n (upd fr (encM m x) (nI (e.2.1 + 1))) (upd ln L.length (nI (encM m x))) (upd by' (encM m x) (nI (80000 * k + encM m e.1))) fw fs := by
  obtain ⟨h1, h2, h3, h4, h5⟩ := h
  have hne : ∀ q, q ∈ L → encM m q.1 ≠ encM m x := fun q hq hc => hn q hq (encM_inj (hO.2.1 q hq) hx hc)
  have key : ∀ (j : Nat) (q : BE), (L ++ [(x, e.2.1 + 1, e.1, k)])[j]? = some q → (L[j]? = some q ∧ j < L.length) ∨ (j = L.length ∧ q = (x, e.2.1 + 1, e.1, k)) := by
    intro j q hj
    by_cases hl : j < L.length
    · rw [List.getElem?_append_left hl] at hj
      exact Or.inl ⟨hj, hl⟩
    · rw [List.getElem?_append_right (by omega)] at hj
      have hz := (List.getElem?_eq_some_iff.mp hj).1
      simp at hz
      rw [hz] at hj
      simp at hj
      exact Or.inr ⟨by omega, hj.symm⟩
  have ht : (L ++ [(x, e.2.1 + 1, e.1, k)]).take n = L.take n := List.take_append_of_le_length hnL
  refine ⟨fun j q hj => ?_, fun s hs hq => ?_, fun j q hj => ?_, by rw [ht]; exact h4, by rw [ht]; exact h5⟩
  · rcases key j q hj with ⟨hj, hl⟩ | ⟨hjl, ej⟩
    · rw [pk_un (by omega), pk_un (hne q (List.mem_of_getElem? hj))]
      exact h1 j q hj
    · subst ej
      rw [hjl]
      exact ⟨pk_us, pk_us⟩
  · have hsx : s ≠ encM m x := fun q => hq _ (List.mem_append_right _ (List.mem_singleton.mpr rfl)) q.symm
    rw [pk_un hsx]
    exact h2 s hs (fun q hq' => hq q (List.mem_append_left _ hq'))
  · rcases key (j + 1) q hj with ⟨hj, hl⟩ | ⟨hj, ej⟩
    · rw [pk_un (hne q (List.mem_of_getElem? hj))]
      exact h3 j q hj
    · subst ej
      exact pk_us
theorem bFst_app {L : List BE} {e : BE} {v : Nat} : bFst (L ++ [e]) v = (bFst L v).or (if e.1.2.2.1 = v then some e else none) := by
  unfold bFst
  rw [List.find?_append]
  by_cases h : e.1.2.2.1 = v
  · have hb : (e.1.2.2.1 == v) = true := by simp [h]
    simp [List.find?, hb, h]
  · have hb : (e.1.2.2.1 == v) = false := by simp [h]
    simp [List.find?, hb, h]
theorem take_next {L : List BE} {i : Nat} {e : BE} (h : L[i]? = some e) : L.take (i + 1) = L.take i ++ [e] := by
  rw [List.take_add_one, h]; rfl
theorem mFew_ne {m K : Nat} {L : List BE} (hm : m ≤ 100) (hO : bOK m K L) {v n : Nat} {e : BE} (h : bFst (L.take n) v = some e) : ¬ mFew (L.take n) v = -1 := by
  unfold mFew
  rw [h]
  have h1 := List.mem_of_find?_eq_some h
  have h2 := List.mem_of_mem_take h1
  obtain ⟨j, hj⟩ := List.getElem?_of_mem h2
  have h3 := hO.2.2.1 j e hj
  have h4 := hO.len
  have h5 := mm_le hm
  have h6 := (List.getElem?_eq_some_iff.mp hj).1
  exact nI_m1 (by omega)
theorem mFew_none {L : List BE} {v : Nat} (h : bFst L v = none) : mFew L v = -1 := by unfold mFew; rw [h]
/-- the next one is looked at: a number that was not shown so far -/
theorem mRep.new {m K : Nat} {L : List BE} {i : Nat} {fr ln by' fw fs : Nat → Int32} (hm : m ≤ 100) (hO : bOK m K L) (h : mRep m L i fr ln by' fw fs) {e : BE} (hi : L[i]? = some e) (hn : fw e.1.2.2.1 = -1) : mRep m L (i + 1) fr ln by' (upd fw e.1.2.2.1 (nI e.2.1)) (upd fs e.1.2.2.1 (nI (encM m e.1))) := by
  obtain ⟨h1, h2, h3, h4, h5⟩ := h
  have ho := hO.2.1 e (List.mem_of_getElem? hi)
  have hno : bFst (L.take i) e.1.2.2.1 = none := by
    cases hq : bFst (L.take i) e.1.2.2.1 with
    | none => rfl
    | some q => exact absurd ((h4 _ ho.2.2.1).symm.trans hn) (mFew_ne hm hO hq)
  refine ⟨h1, h2, h3, fun v hv => ?_, fun v q hv hq => ?_⟩
  · rw [take_next hi]
    unfold mFew
    rw [bFst_app]
    by_cases he : v = e.1.2.2.1
    · subst he
      rw [pk_us, hno, if_pos rfl]
      rfl
    · rw [pk_un he, if_neg (fun z => he z.symm), Option.or_none, h4 v hv]
      rfl
  · rw [take_next hi, bFst_app] at hq
    by_cases he : v = e.1.2.2.1
    · subst he
      rw [hno, if_pos rfl] at hq
      cases hq
      exact pk_us
    · rw [if_neg (fun z => he z.symm), Option.or_none] at hq
      rw [pk_un he]
      exact h5 v q hv hq
theorem mRep.old {m : Nat} {L : List BE} {i : Nat} {fr ln by' fw fs : Nat → Int32} (h : mRep m L i fr ln by' fw fs) {e : BE} (ho : okA m e.1) (hi : L[i]? = some e) (hn : ¬ fw e.1.2.2.1 = -1) : mRep m L (i + 1) fr ln by' fw fs := by
  obtain ⟨h1, h2, h3, h4, h5⟩ := h
  have hs : ∃ q, bFst (L.take i) e.1.2.2.1 = some q := by
    cases hq : bFst (L.take i) e.1.2.2.1 with
    | none => exact absurd ((h4 _ ho.2.2.1).trans (mFew_none hq)) hn
    | some q => exact ⟨q, rfl⟩
  have hsame : ∀ v, bFst (L.take (i + 1)) v = bFst (L.take i) v := by
    intro v
    rw [take_next hi, bFst_app]
    by_cases he : e.1.2.2.1 = v
    · obtain ⟨q, hq⟩ := hs
      rw [← he, hq]; rfl
    · rw [if_neg he, Option.or_none]
  refine ⟨h1, h2, h3, fun v hv => ?_, fun v q hv hq => h5 v q hv (by rw [← hsame v]; exact hq)⟩
  rw [h4 v hv]
  unfold mFew
  rw [hsame v]
