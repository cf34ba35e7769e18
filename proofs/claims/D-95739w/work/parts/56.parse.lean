set_option maxRecDepth 100000
/-! ===== the text's law: what is read of bytes T 0 .. T (n - 1), with no program in sight ===== -/
def rgF (lo hi : Nat) (T : Nat → Nat) : Nat → Nat → Nat
  | 0, p => p
  | k + 1, p => if lo ≤ T p ∧ T p ≤ hi then rgF lo hi T k (p + 1) else p
/-- the first place from p on that is no more in the range -/
def rgE (lo hi : Nat) (T : Nat → Nat) (n p : Nat) : Nat := rgF lo hi T (n - p) p
section RG
variable {lo hi : Nat} {T : Nat → Nat} {n p : Nat}
theorem rgE_end (h : n ≤ p) : rgE lo hi T n p = p := by unfold rgE; rw [show n - p = 0 by omega]; rfl
theorem rgE_out (h : ¬ (lo ≤ T p ∧ T p ≤ hi)) : rgE lo hi T n p = p := by
  unfold rgE
  cases n - p with
  | zero => rfl
  | succ k => rw [rgF, if_neg h]
theorem rgE_go (hp : p < n) (h : lo ≤ T p ∧ T p ≤ hi) : rgE lo hi T n p = rgE lo hi T n (p + 1) := by
  unfold rgE
  rw [show n - p = (n - (p + 1)) + 1 by omega, rgF, if_pos h]
theorem rgF_ge : ∀ k p, p ≤ rgF lo hi T k p ∧ rgF lo hi T k p ≤ p + k ∧ (∀ i, p ≤ i → i < rgF lo hi T k p → lo ≤ T i ∧ T i ≤ hi) ∧ (rgF lo hi T k p < p + k → ¬ (lo ≤ T (rgF lo hi T k p) ∧ T (rgF lo hi T k p) ≤ hi))
  | 0, p => ⟨Nat.le_refl _, Nat.le_refl _, fun i h1 h2 => by rw [rgF] at h2; omega, fun h => by rw [rgF] at h; omega⟩
  | k + 1, p => by
    rw [rgF]
    by_cases h : lo ≤ T p ∧ T p ≤ hi
    · rw [if_pos h]
      obtain ⟨h1, h2, h3, h4⟩ := rgF_ge k (p + 1)
      refine ⟨by omega, by omega, fun i hi1 hi2 => ?_, fun hl => h4 (by omega)⟩
      by_cases he : i = p
      · rw [he]; exact h
      · exact h3 i (by omega) hi2
    · rw [if_neg h]
      exact ⟨Nat.le_refl _, by omega, fun i h1 h2 => by omega, fun _ => h⟩
theorem rgE_ge : p ≤ rgE lo hi T n p := (rgF_ge _ _).1
theorem rgE_le (h : p ≤ n) : rgE lo hi T n p ≤ n := by have := (rgF_ge (lo := lo) (hi := hi) (T := T) (n - p) p).2.1; unfold rgE; omega
theorem rgE_in {i : Nat} (h1 : p ≤ i) (h2 : i < rgE lo hi T n p) : lo ≤ T i ∧ T i ≤ hi := (rgF_ge (n - p) p).2.2.1 i h1 h2
theorem rgE_stop (h : rgE lo hi T n p < n) : ¬ (lo ≤ T (rgE lo hi T n p) ∧ T (rgE lo hi T n p) ≤ hi) := by
  have h1 : p ≤ rgE lo hi T n p := rgE_ge
  exact (rgF_ge (n - p) p).2.2.2 (by unfold rgE at h h1; omega)
theorem rgE_idem : rgE lo hi T n (rgE lo hi T n p) = rgE lo hi T n p := by
  by_cases h : rgE lo hi T n p < n
  · exact rgE_out (rgE_stop h)
  · exact rgE_end (by omega)
theorem rgE_pos (hp : p < n) : p < rgE lo hi T n p ↔ lo ≤ T p ∧ T p ≤ hi := by
  constructor
  · intro h; exact rgE_in (Nat.le_refl _) h
  · intro h; rw [rgE_go hp h]; have := rgE_ge (lo := lo) (hi := hi) (T := T) (n := n) (p := p + 1); omega
end RG
/-- blanks skipped -/
def sk (T : Nat → Nat) (n p : Nat) : Nat := rgE 32 32 T n p
/-- behind the letters -/
def we (T : Nat → Nat) (n p : Nat) : Nat := rgE 97 122 T n p
/-- behind the digits -/
def de (T : Nat → Nat) (n p : Nat) : Nat := rgE 48 57 T n p
/-- a word as a number -/
def wcode (T : Nat → Nat) (p : Nat) : Nat → Nat
  | 0 => 0
  | k + 1 => 27 * wcode T p k + (T (p + k) - 96)
/-- digits as a number -/
def dv (T : Nat → Nat) (p : Nat) : Nat → Nat
  | 0 => 0
  | k + 1 => 10 * dv T p k + (T (p + k) - 48)
def wrd (T : Nat → Nat) (p k : Nat) : List Nat := (List.range k).map (fun i => T (p + i))
def wcL (l : List Nat) : Nat := l.foldl (fun a x => 27 * a + (x - 96)) 0
theorem wrd_succ {T : Nat → Nat} {p k : Nat} : wrd T p (k + 1) = wrd T p k ++ [T (p + k)] := by unfold wrd; rw [List.range_succ, List.map_append]; rfl
theorem wcL_app {l : List Nat} {x : Nat} : wcL (l ++ [x]) = 27 * wcL l + (x - 96) := by unfold wcL; rw [List.foldl_append]; rfl
theorem wcode_eq {T : Nat → Nat} {p : Nat} : ∀ k, wcode T p k = wcL (wrd T p k)
  | 0 => rfl
  | k + 1 => by rw [wrd_succ, wcL_app, wcode, wcode_eq k]
theorem wcode_lt {T : Nat → Nat} {p : Nat} : ∀ k, (∀ i, i < k → 97 ≤ T (p + i) ∧ T (p + i) ≤ 122) → wcode T p k < 27 ^ k
  | 0, _ => Nat.zero_lt_one
  | k + 1, h => by
    have h1 := wcode_lt k (fun i hi => h i (by omega))
    have h2 := h k (by omega)
    rw [wcode, Nat.pow_succ]
    omega
theorem wcL_inj : ∀ (a b : List Nat), (∀ x, x ∈ a → 97 ≤ x ∧ x ≤ 122) → (∀ x, x ∈ b → 97 ≤ x ∧ x ≤ 122) → wcL a = wcL b → a = b := by
  intro a
  induction h : a.length generalizing a with
  | zero =>
    intro b _ hb he
    have ha0 : a = [] := List.eq_nil_of_length_eq_zero h
    subst ha0
    rcases List.eq_nil_or_concat b with rfl | ⟨b', x, rfl⟩
    · rfl
    · rw [List.concat_eq_append, wcL_app] at he
      have := hb x (by simp)
      have h0 : wcL [] = 0 := rfl
      omega
  | succ k ih =>
    intro b ha hb he
    rcases List.eq_nil_or_concat a with rfl | ⟨a', x, rfl⟩
    · cases h
    · rw [List.concat_eq_append] at h ha he ⊢
      have hx := ha x (by simp)
      rcases List.eq_nil_or_concat b with rfl | ⟨b', y, rfl⟩
      · rw [wcL_app] at he
        have h0 : wcL [] = 0 := rfl
        omega
      · rw [List.concat_eq_append] at hb he ⊢
        have hy := hb y (by simp)
        rw [wcL_app, wcL_app] at he
        have e1 : wcL a' = wcL b' := by omega
        have e2 : x = y := by omega
        rw [List.length_append] at h
        have := ih a' (by simpa using h) b' (fun z hz => ha z (List.mem_append_left _ hz)) (fun z hz => hb z (List.mem_append_left _ hz)) e1
        rw [this, e2]
/-- the eleven words -/
def wLs : List (List Nat) := [[], [100, 105, 97, 108], [114, 111, 117, 110, 100], [115, 116, 111, 112], [102, 105, 103, 117, 114, 101], [112, 108, 117, 115], [108, 101, 115, 115], [116, 105, 109, 101, 115], [105, 115], [99, 108, 101, 97, 114], [110, 111, 119], [115, 116, 117, 99, 107]]
def wIx (l : List Nat) : Nat := if l = [100, 105, 97, 108] then 1 else if l = [114, 111, 117, 110, 100] then 2 else if l = [115, 116, 111, 112] then 3 else if l = [102, 105, 103, 117, 114, 101] then 4 else if l = [112, 108, 117, 115] then 5 else if l = [108, 101, 115, 115] then 6 else if l = [116, 105, 109, 101, 115] then 7 else if l = [105, 115] then 8 else if l = [99, 108, 101, 97, 114] then 9 else if l = [110, 111, 119] then 10 else if l = [115, 116, 117, 99, 107] then 11 else 0
/-- which word stands from q to its end -/
def wK (T : Nat → Nat) (n q : Nat) : Nat := wIx (wrd T q (we T n q - q))
theorem wIx_is {l : List Nat} {k : Nat} (hk : 1 ≤ k ∧ k ≤ 11) : wIx l = k ↔ l = wLs.getD k [] := by
  have ck : k = 1 ∨ k = 2 ∨ k = 3 ∨ k = 4 ∨ k = 5 ∨ k = 6 ∨ k = 7 ∨ k = 8 ∨ k = 9 ∨ k = 10 ∨ k = 11 := by omega
  constructor
  · intro h
    unfold wIx at h
    repeat' split at h
    all_goals first | (subst h; assumption) | omega
  · intro h
    rw [h]
    rcases ck with rfl | rfl | rfl | rfl | rfl | rfl | rfl | rfl | rfl | rfl | rfl <;> decide
/-- a number: (0, its value, the place behind it) or (which fault, its place, 0) -/
def pNum (T : Nat → Nat) (n p lo hi : Nat) : Nat × Nat × Nat :=
  if sk T n p < de T n (sk T n p) then (if de T n (sk T n p) ≤ sk T n p + 3 ∧ lo ≤ dv T (sk T n p) (de T n (sk T n p) - sk T n p) ∧ dv T (sk T n p) (de T n (sk T n p) - sk T n p) ≤ hi then (0, dv T (sk T n p) (de T n (sk T n p) - sk T n p), de T n (sk T n p)) else (2, sk T n p, 0)) else (1, sk T n p, 0)
def pEnd (T : Nat → Nat) (n p : Nat) : Nat × Nat × Nat := if sk T n p < n ∧ T (sk T n p) = 59 then (0, 0, sk T n p + 1) else (1, sk T n p, 0)
abbrev pR : Type := Nat × Nat × (Nat × Nat × Nat × Nat) × Nat
def pF (f x : Nat) : pR := (f, x, (0, 0, 0, 0), 0)
/-- cost and end -/
def pCE (T : Nat → Nat) (n p k nm ot : Nat) : pR :=
  if (pNum T n p 1 99).1 = 0 then (if (pEnd T n (pNum T n p 1 99).2.2).1 = 0 then (0, 0, (k, (pNum T n p 1 99).2.1, nm, ot), (pEnd T n (pNum T n p 1 99).2.2).2.2) else pF (pEnd T n (pNum T n p 1 99).2.2).1 (pEnd T n (pNum T n p 1 99).2.2).2.1) else pF (pNum T n p 1 99).1 (pNum T n p 1 99).2.1
def pNm (T : Nat → Nat) (n p lo hi : Nat) (c : Nat → Nat → pR) : pR := if (pNum T n p lo hi).1 = 0 then c (pNum T n p lo hi).2.1 (pNum T n p lo hi).2.2 else pF (pNum T n p lo hi).1 (pNum T n p lo hi).2.1
/-- a key behind its word w (4 .. 11) -/
def pKey (T : Nat → Nat) (n bs m w p : Nat) : pR :=
  if w = 4 then pNm T n p 0 (bs - 1) (fun d e => pCE T n e 0 d 0)
  else if w = 10 then (if 5 ≤ wK T n (sk T n p) ∧ wK T n (sk T n p) ≤ 7 then pNm T n (we T n (sk T n p)) 0 (m - 1) (fun v e => pCE T n e 6 v (wK T n (sk T n p) - 4)) else pF 1 (sk T n p))
  else if w = 11 then pNm T n p 0 (bs - 1) (fun d e => pNm T n e 0 (bs - 1) (fun d2 e2 => pCE T n e2 7 d d2))
  else pCE T n p (w - 4) 0 0
/-- the dial behind its word -/
def pDial (T : Nat → Nat) (n p : Nat) : pR :=
  if 2 ≤ wK T n (sk T n p) ∧ wK T n (sk T n p) ≤ 3 then pNm T n (we T n (sk T n p)) 2 10 (fun bs e => pNm T n e 1 6 (fun fg e2 => if bs ^ fg ≤ 100 then (if (pEnd T n e2).1 = 0 then (0, 0, (wK T n (sk T n p) - 2, bs, fg, bs ^ fg), (pEnd T n e2).2.2) else pF (pEnd T n e2).1 (pEnd T n e2).2.1) else pF 2 (sk T n e)))
  else pF 1 (sk T n p)
/-- the keys: (0, 0, they) or (which fault, its place, ..) -/
def pKeys (T : Nat → Nat) (n bs m : Nat) : Nat → Nat → List (Nat × Nat × Nat × Nat) → Nat × Nat × List (Nat × Nat × Nat × Nat)
  | 0, _, l => (0, 0, l)
  | k + 1, p, l =>
    if n ≤ sk T n p then (0, 0, l)
    else if wK T n (sk T n p) = 1 then (3, sk T n p, l)
    else if wK T n (sk T n p) < 4 then (1, sk T n p, l)
    else if l.length = 8 then (3, sk T n p, l)
    else if (pKey T n bs m (wK T n (sk T n p)) (we T n (sk T n p))).1 = 0 then pKeys T n bs m k (pKey T n bs m (wK T n (sk T n p)) (we T n (sk T n p))).2.2.2 (l ++ [(pKey T n bs m (wK T n (sk T n p)) (we T n (sk T n p))).2.2.1])
    else ((pKey T n bs m (wK T n (sk T n p)) (we T n (sk T n p))).1, (pKey T n bs m (wK T n (sk T n p)) (we T n (sk T n p))).2.1, l)
/-- all: which fault (0: none), its place, the dial (if there is one), the keys -/
def pAll (T : Nat → Nat) (n : Nat) : Nat × Nat × Option (Nat × Nat × Nat × Nat) × List (Nat × Nat × Nat × Nat) :=
  if n ≤ sk T n 0 then (0, 0, none, [])
  else if wK T n (sk T n 0) = 1 then (if (pDial T n (we T n (sk T n 0))).1 = 0 then ((pKeys T n (pDial T n (we T n (sk T n 0))).2.2.1.2.1 (pDial T n (we T n (sk T n 0))).2.2.1.2.2.2 n (pDial T n (we T n (sk T n 0))).2.2.2 []).1, (pKeys T n (pDial T n (we T n (sk T n 0))).2.2.1.2.1 (pDial T n (we T n (sk T n 0))).2.2.1.2.2.2 n (pDial T n (we T n (sk T n 0))).2.2.2 []).2.1, some (pDial T n (we T n (sk T n 0))).2.2.1, (pKeys T n (pDial T n (we T n (sk T n 0))).2.2.1.2.1 (pDial T n (we T n (sk T n 0))).2.2.1.2.2.2 n (pDial T n (we T n (sk T n 0))).2.2.2 []).2.2) else ((pDial T n (we T n (sk T n 0))).1, (pDial T n (we T n (sk T n 0))).2.1, none, []))
  else (1, sk T n 0, none, [])
theorem pNum_pos {T : Nat → Nat} {n p lo hi : Nat} (hp : p ≤ n) (h : (pNum T n p lo hi).1 = 0) : sk T n p < (pNum T n p lo hi).2.2 ∧ p < (pNum T n p lo hi).2.2 ∧ (pNum T n p lo hi).2.2 ≤ n ∧ lo ≤ (pNum T n p lo hi).2.1 ∧ (pNum T n p lo hi).2.1 ≤ hi := by
  have h1 : p ≤ sk T n p := rgE_ge
  have h2 : sk T n p ≤ n := rgE_le hp
  have h3 : de T n (sk T n p) ≤ n := rgE_le h2
  unfold pNum at h ⊢
  split at h
  · rename_i hc
    rw [if_pos hc]
    split at h
    · rename_i hd
      rw [if_pos hd]
      exact ⟨hc, by show p < de T n (sk T n p); omega, h3, hd.2.1, hd.2.2⟩
    · exact absurd h (fun q => by cases q)
  · exact absurd h (fun q => by cases q)
theorem pEnd_pos {T : Nat → Nat} {n p : Nat} (h : (pEnd T n p).1 = 0) : p < (pEnd T n p).2.2 ∧ (pEnd T n p).2.2 ≤ n := by
  have h1 : p ≤ sk T n p := rgE_ge
  unfold pEnd at h ⊢
  split at h
  · rename_i hc
    rw [if_pos hc]
    exact ⟨by show p < sk T n p + 1; omega, by show sk T n p + 1 ≤ n; omega⟩
  · exact absurd h (fun q => by cases q)
theorem pCE_pos {T : Nat → Nat} {n p k nm ot : Nat} (hp : p ≤ n) (h : (pCE T n p k nm ot).1 = 0) : p < (pCE T n p k nm ot).2.2.2 ∧ (pCE T n p k nm ot).2.2.2 ≤ n ∧ (pCE T n p k nm ot).2.2.1.1 = k ∧ 1 ≤ (pCE T n p k nm ot).2.2.1.2.1 ∧ (pCE T n p k nm ot).2.2.1.2.1 ≤ 99 ∧ (pCE T n p k nm ot).2.2.1.2.2.1 = nm ∧ (pCE T n p k nm ot).2.2.1.2.2.2 = ot := by
  unfold pCE at h ⊢
  split at h
  · rename_i hc
    rw [if_pos hc]
    obtain ⟨a1, a2, a3, a4, a5⟩ := pNum_pos hp hc
    split at h
    · rename_i hd
      rw [if_pos hd]
      obtain ⟨b1, b2⟩ := pEnd_pos hd
      exact ⟨by show p < (pEnd T n (pNum T n p 1 99).2.2).2.2; omega, b2, rfl, a4, a5, rfl, rfl⟩
    · rename_i hd
      exact absurd h hd
  · rename_i hc
    exact absurd h hc
