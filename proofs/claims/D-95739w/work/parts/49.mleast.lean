set_option maxRecDepth 100000
theorem rch_toA {kd bs m K : Nat} {ks : Nat → KY} {w : Nat → Nat} {a : A4} (hD : okD kd bs m) (hks : ∀ k, k < K → okK bs m (ks k)) (ha : okA m a) : ∀ i x n, rchL (fun k x => encM m (stk kd bs m (ks k) (decM m x))) K w (fun x n => x = encM m a ∧ n = 0) i x n → okA m (decM m x) ∧ rcA (fun k a => stk kd bs m (ks k) a) K w (fun b n => b = a ∧ n = 0) i (decM m x) n
  | 0, x, n, h => by
    obtain ⟨rfl, rfl⟩ := h
    rw [decM_encM ha]
    exact ⟨ha, rfl, rfl⟩
  | i + 1, x, n, h => by
    obtain ⟨y, v, k, hy, hk, rfl, rfl⟩ := h
    obtain ⟨h1, h2⟩ := rch_toA hD hks ha i y v hy
    have h3 := stk_ok hD (hks k hk) h1
    show okA m (decM m (encM m _)) ∧ rcA _ _ _ _ (i + 1) (decM m (encM m _)) _
    rw [decM_encM h3]
    exact ⟨h3, _, v, k, h2, hk, rfl, rfl⟩
theorem rch_ofA {kd bs m K : Nat} {ks : Nat → KY} {w : Nat → Nat} {a : A4} (hD : okD kd bs m) (hks : ∀ k, k < K → okK bs m (ks k)) (ha : okA m a) : ∀ i b n, rcA (fun k a => stk kd bs m (ks k) a) K w (fun b n => b = a ∧ n = 0) i b n → okA m b ∧ rchL (fun k x => encM m (stk kd bs m (ks k) (decM m x))) K w (fun x n => x = encM m a ∧ n = 0) i (encM m b) n
  | 0, x, n, h => by
    obtain ⟨rfl, rfl⟩ := h
    exact ⟨ha, rfl, rfl⟩
  | i + 1, x, n, h => by
    obtain ⟨y, v, k, hy, hk, rfl, rfl⟩ := h
    obtain ⟨h1, h2⟩ := rch_ofA hD hks ha i y v hy
    have h3 := stk_ok hD (hks k hk) h1
    refine ⟨h3, _, v, k, h2, hk, ?_, rfl⟩
    show _ = encM m (stk kd bs m (ks k) (decM m (encM m y)))
    rw [decM_encM h1]
theorem rch_PM {kd bs m nk v : Nat} {ks : Nat → KY} {a : A4} (hD : okD kd bs m) (hks : ∀ k, k < nk → okK bs m (ks k)) (ha : okA m a) (n : Nat) : (fun n => ∃ b, rcE (fun k a => stk kd bs m (ks k) a) nk (fun k => (ks k).2.1) (fun b n => b = a ∧ n = 0) b n ∧ b.2.2.1 = v) n ↔ ∃ x, rchN (fun k x => encM m (stk kd bs m (ks k) (decM m x))) nk (fun k => (ks k).2.1) (fun x n => x = encM m a ∧ n = 0) x n ∧ x / 8 / m = v := by
  constructor
  · rintro ⟨b, ⟨i, hi⟩, hb⟩
    obtain ⟨h1, h2⟩ := rch_ofA hD hks ha i b n hi
    exact ⟨encM m b, ⟨i, h2⟩, (congrArg (fun z : A4 => z.2.2.1) (decM_encM h1)).trans hb⟩
  · rintro ⟨x, ⟨i, hi⟩, hx⟩
    exact ⟨decM m x, ⟨i, (rch_toA hD hks ha i x n hi).2⟩, hx⟩
theorem dkI.bd {st : Nat → Nat → Nat} {K : Nat} {w : Nat → Nat} {B : Nat → Nat → Prop} {N cost : Nat} {c : Nat → Option Nat} {R : Nat → List Nat} {P : List Nat} {ex : Nat → Nat → Prop} (h : dkI st K w B N ex cost c R P) {x d : Nat} (hx : x < N) (hd : c x = some d) : d ≤ cost + 99 := by
  rcases (h.2.2.1 x d hx hd).2 with q | q
  · obtain ⟨_, _, d', e1, e2⟩ := h.2.1.2 x q
    rw [hd] at e1
    cases e1
    omega
  · obtain ⟨_, d', e1, _, _, e2⟩ := h.1 _ x (Nat.mod_lt _ (by decide)) q
    rw [hd] at e1
    cases e1
    omega
theorem RGd.er {N : Nat} {c : Nat → Option Nat} {R : Nat → List Nat} {hd ln mo : Nat → Int32} (h : RGd N c R hd ln mo) {s d : Nat} (hc : c s = some d) : ∀ q x, q < 100 → (x ∈ va_up R (d % 100) ((R (d % 100)).erase s) q ↔ x ∈ R q ∧ x ≠ s) := by
  intro q x hq
  by_cases he : q = d % 100
  · subst he
    rw [va_up_self, (h _ hq).2.1.mem_erase_iff]
    exact ⟨fun z => ⟨z.2, z.1⟩, fun z => ⟨z.2, z.1⟩⟩
  · rw [va_up_ne _ _ he]
    refine ⟨fun z => ⟨z, fun e => ?_⟩, fun z => z.1⟩
    subst e
    obtain ⟨_, d', e1, e2⟩ := (h q hq).2.2 x z
    rw [hc] at e1
    cases e1
    exact he e2.symm
theorem RGd.no {N : Nat} {c : Nat → Option Nat} {R : Nat → List Nat} {hd ln mo : Nat → Int32} (h : RGd N c R hd ln mo) {s : Nat} (hc : c s = none) : ∀ q x, q < 100 → (x ∈ R q ↔ x ∈ R q ∧ x ≠ s) := by
  intro q x hq
  refine ⟨fun z => ⟨z, fun e => ?_⟩, fun z => z.1⟩
  subst e
  obtain ⟨_, d', e1, e2⟩ := (h q hq).2.2 x z
  rw [hc] at e1
  cases e1
theorem fr_up {N : Nat} {c : Nat → Option Nat} {fr : Nat → Int32} (h : ∀ s, s < N → fr s = oI (c s)) (t d : Nat) : ∀ s, s < N → upd fr t (nI d) s = oI (va_up c t (some d) s) := by
  intro s hs
  by_cases he : s = t
  · subst he; rw [pk_us, va_up_self]; rfl
  · rw [pk_un he, va_up_ne _ _ he]; exact h s hs
theorem oI_m {b : Option Nat} (hb : ∀ w, b = some w → w < 2 ^ 31) : oI b = -1 ↔ b = none := by
  cases b with
  | none => exact ⟨fun _ => rfl, fun _ => rfl⟩
  | some w => exact ⟨fun q => absurd q (nI_m1 (hb w rfl)), fun q => by cases q⟩
set_option maxHeartbeats 4000000 in
theorem m_leastOf {l : Launch} {D : va_G} {dT : Nat → ClassId} {H0 : Heap} {r : Nat → Nat} {nx : Nat} {g : j_H} {kd bs fg m nk : Nat} {a : A4} {F : Nat → Nat} {tk : Int64} {V : Nat → Nat → Int32} (hD : okD kd bs m) (ha : okA m a) {ks : Nat → KY} (hks : mdKs (V 101) bs m nk ks) (hn8 : nk ≤ 8) (hw1 : ∀ k, k < nk → 1 ≤ (ks k).2.1) (v : Nat) (hv : v < m) : MC (gG l D dT H0) yX3_leastOf cX3_leastOf 10 (some .int) 6 0 0 [.ref (r 100), .int (nI v)] r (mdS r dT g (nI kd) bs fg m nk a.1 a.2.1 a.2.2.1 a.2.2.2 F tk V) nx (jq_m (lstN (fun n => ∃ b, rcE (fun k a => stk kd bs m (ks k) a) nk (fun k => (ks k).2.1) (fun b n => b = a ∧ n = 0) b n ∧ b.2.2.1 = v)) r dT g (nI kd) bs fg m nk a F tk V nx) := by
  have hm := hD.pos
  have hm2 := hD.le
  have hm3 : 2 ≤ m := by have := hD.2.1; have := hD.2.2.2.1; omega
  have hkd := hD.1
  have hmm := mm_le hm2
  have hea := encM_lt ha
  have hlk := rch_PM (v := v) hD (fun k hk => (hks k hk).2) ha
  have hstN : ∀ x k, x < 8 * m * m → k < nk → encM m (stk kd bs m (ks k) (decM m x)) < 8 * m * m := fun x k hx hk => encM_lt (stk_ok hD (hks k hk).2 (decM_ok hm hx))
  obtain ⟨A, hA⟩ : ∃ A : Int32, lstN (fun n => ∃ b, rcE (fun k a => stk kd bs m (ks k) a) nk (fun k => (ks k).2.1) (fun b n => b = a ∧ n = 0) b n ∧ b.2.2.1 = v) = A := ⟨_, rfl⟩
  have hA1 : ∀ n, (∃ x, rchN (fun k x => encM m (stk kd bs m (ks k) (decM m x))) nk (fun k => (ks k).2.1) (fun x n => x = encM m a ∧ n = 0) x n ∧ x / 8 / m = v) → (∀ k x, rchN (fun k x => encM m (stk kd bs m (ks k) (decM m x))) nk (fun k => (ks k).2.1) (fun x n => x = encM m a ∧ n = 0) x k → x / 8 / m = v → n ≤ k) → nI n = A := fun n h1 h2 => by
    rw [← hA]
    refine (lstN_is ((hlk n).mpr h1) (fun k hk => ?_)).symm
    obtain ⟨x, e1, e2⟩ := (hlk k).mp hk
    exact h2 k x e1 e2
  have hA0 : (∀ n x, rchN (fun k x => encM m (stk kd bs m (ks k) (decM m x))) nk (fun k => (ks k).2.1) (fun x n => x = encM m a ∧ n = 0) x n → ¬ x / 8 / m = v) → A = -1 := fun h => by
    rw [← hA]
    refine lstN_none (fun n hn => ?_)
    obtain ⟨x, e1, e2⟩ := (hlk n).mp hn
    exact h n x e1 e2
  rw [hA]
  clear hlk hA
  obtain ⟨st, hst⟩ : ∃ st : Nat → Nat → Nat, (fun k x => encM m (stk kd bs m (ks k) (decM m x))) = st := ⟨_, rfl⟩
  have hstE : ∀ k x, encM m (stk kd bs m (ks k) (decM m x)) = st k x := fun k x => congrFun (congrFun hst k) x
  rw [hst] at hA1 hA0
  simp only [hstE] at hstN
  clear hst
  refine MC.ofJ [some (.ref (r 100)), some (.int (nI v)), none, none, none, none, none, none, none, none] rfl (Nat.le_of_ble_eq_true rfl) (by decide) ?_
  refine j_re rfl rfl (h' := (mdS r dT g (nI kd) bs fg m nk a.1 a.2.1 a.2.2.1 a.2.2.2 F tk (vo V [(109, V 109), (110, V 110), (112, V 112), (115, V 115)]))) (by rw [vo_same _ (by simp)]) ?_
  refine j_aload_n dX3_leastOf_0 rfl ?_
  refine j_callVi (m_stateNow ha.2.2.2) dX3_leastOf_1 pmX3_stateNow q1344 q1346 qs43 (by first | rfl | assumption) rfl rfl rfl ⟨Nat.le_of_ble_eq_true rfl, Nat.le_of_ble_eq_true rfl⟩ ⟨Nat.le_of_ble_eq_true rfl, Nat.le_of_ble_eq_true rfl⟩ rfl (Nat.le_of_ble_eq_true rfl) ?_
  refine j_istore_n dX3_leastOf_4 (by decide) rfl ?_
  refine j_iconst (v := 0) dX3_leastOf_5 (by decide) ?_
  refine j_istore_n dX3_leastOf_6 (by decide) rfl ?_
  refine j_less (L' := [some (.ref (r 100)), some (.int (nI v)), some (.int (nI (encM m a))), some (.int (nI 0)), none, none, none, none, none, none]) ⟨Or.inr rfl, Or.inr rfl, Or.inr rfl, Or.inr rfl, Or.inl rfl, Or.inl rfl, Or.inl rfl, Or.inl rfl, Or.inl rfl, Or.inl rfl, trivial⟩ ?_
  refine j_lp2 (fun (k : Nat) (fr : Nat → Int32) => (mdS r dT g (nI kd) bs fg m nk a.1 a.2.1 a.2.2.1 a.2.2.2 F tk (vo V [(109, fr), (110, V 110), (112, V 112), (115, V 115)]))) (fun k _ => [some (.ref (r 100)), some (.int (nI v)), some (.int (nI (encM m a))), some (.int (nI k)), none, none, none, none, none, none]) (fun k fr => k ≤ 8 * m * m ∧ ∀ q, q < k → fr q = -1) (fun k _ => 8 * m * m - k) ?_ 0 (V 109) ⟨Nat.zero_le _, fun q hq => absurd hq (Nat.not_lt_zero _)⟩
  intro k fr ⟨hk, hfr⟩ ih
  refine j_iload_n dX3_leastOf_7 rfl ?_
  refine j_aload_n dX3_leastOf_8 rfl ?_
  refine j_callVi m_states dX3_leastOf_9 pmX3_states q1348 q1350 qs44 (by first | rfl | assumption) rfl rfl rfl ⟨Nat.le_of_ble_eq_true rfl, Nat.le_of_ble_eq_true rfl⟩ ⟨Nat.le_of_ble_eq_true rfl, Nat.le_of_ble_eq_true rfl⟩ rfl (Nat.le_of_ble_eq_true rfl) ?_
  refine j_icmp_ge (tgt := 28) dX3_leastOf_12 (by decide) (fun c12 => ?_) (fun c12 => ?_)
  · skip
    have hk1 : k = 8 * m * m := by
      have := (nI_leI (by omega) (by omega)).mp c12
      omega
    have hfr9 : ∀ s, s < 8 * m * m → fr s = -1 := fun s hs => hfr s (by omega)
    clear hfr hk1 hk
    refine j_iconst (v := 0) dX3_leastOf_28 (by decide) ?_
    refine j_istore_n dX3_leastOf_29 (by decide) rfl ?_
    refine j_less (L' := [some (.ref (r 100)), some (.int (nI v)), some (.int (nI (encM m a))), some (.int (nI 0)), none, none, none, none, none, none]) ⟨Or.inr rfl, Or.inr rfl, Or.inr rfl, Or.inr rfl, Or.inl rfl, Or.inl rfl, Or.inl rfl, Or.inl rfl, Or.inl rfl, Or.inl rfl, trivial⟩ ?_
    refine j_lp2 (fun (k : Nat) (hd : Nat → Int32) => (mdS r dT g (nI kd) bs fg m nk a.1 a.2.1 a.2.2.1 a.2.2.2 F tk (vo V [(109, fr), (110, V 110), (112, V 112), (115, hd)]))) (fun k _ => [some (.ref (r 100)), some (.int (nI v)), some (.int (nI (encM m a))), some (.int (nI k)), none, none, none, none, none, none]) (fun k hd => k ≤ 100 ∧ ∀ q, q < k → hd q = -1) (fun k _ => 100 - k) ?_ 0 (V 115) ⟨Nat.zero_le _, fun q hq => absurd hq (Nat.not_lt_zero _)⟩
    clear ih
    intro k hd ⟨hk, hhd⟩ ih
    refine j_iload_n dX3_leastOf_30 rfl ?_
    refine j_bipush (v := 100) dX3_leastOf_31 (by decide) ?_
    refine j_icmp_ge (tgt := 49) dX3_leastOf_33 (by decide) (fun c33 => ?_) (fun c33 => ?_)
    · skip
      have hk1 : k = 100 := by
        have := (nI_leI (by decide) (by omega)).mp (show nI 100 ≤ nI k from c33)
        omega
      have hhd9 : ∀ q, q < 100 → hd q = -1 := fun s hs => hhd s (by omega)
      clear hhd hk1 hk
      refine j_aload_n dX3_leastOf_49 rfl ?_
      refine j_get 34 dX3_leastOf_50 (by first | rfl | assumption) in_X3 rfl (by decide) q1133 rfl ?_
      refine j_iload_n dX3_leastOf_53 rfl ?_
      refine j_iconst (v := 0) dX3_leastOf_54 (by decide) ?_
      refine j_iast 0 (encM m a) dX3_leastOf_55 (by first | rfl | assumption) rfl rfl (by show encM m a < 80000; omega) (by decide) ?_
      refine j_mdW (f := _) (by decide) (by decide) rfl ?_
      refine j_aload_n dX3_leastOf_56 rfl ?_
      refine j_iload_n dX3_leastOf_57 rfl ?_
      refine j_callV (m_putIn (fr := upd fr (encM m a) 0) (ln := V 110) (mo := V 112) (hd := hd) (c := va_up (fun _ => none) (encM m a) (some 0)) (R := fun _ => []) hmm (fun q hq => ⟨hhd9 q hq, List.nodup_nil, fun s hs => absurd hs List.not_mem_nil⟩) (encM m a) 0 hea (va_up_self _ _ _) pk_us (by decide) (fun q hq hx => absurd hx List.not_mem_nil)) q_ring.isR dX3_leastOf_58 pmX3_putIn q1376 q1378 qs49 (by first | rfl | assumption) rfl rfl rfl ⟨Nat.le_of_ble_eq_true rfl, Nat.le_of_ble_eq_true rfl⟩ ⟨Nat.le_of_ble_eq_true rfl, Nat.le_of_ble_eq_true rfl⟩ rfl (Nat.le_of_ble_eq_true rfl) ?_
      rintro v9 r h9 nx ⟨e9, rfl, rfl, ln, mo, hd, rfl, hR⟩
      cases e9
      have hfr8 : ∀ s, s < 8 * m * m → upd fr (encM m a) 0 s = oI (va_up (fun _ => none) (encM m a) (some 0) s) := by
        intro s hs
        by_cases he : s = encM m a
        · subst he; rw [pk_us, va_up_self]; rfl
        · rw [pk_un he, va_up_ne _ _ he]; exact hfr9 s hs
      have hme0 : ∀ q s d, q < 100 → s ∈ va_up (fun _ => []) 0 [encM m a] q → va_up (fun _ => none) (encM m a) (some 0) s = some d → d + 0 ≤ 0 + 99 := by
        intro q s d hq hs hd9
        by_cases he : s = encM m a
        · subst he; rw [va_up_self] at hd9; cases hd9; omega
        · rw [va_up_ne _ _ he] at hd9; cases hd9
      refine j_iconst (v := 0) dX3_leastOf_61 (by decide) ?_
      refine j_istore_n dX3_leastOf_62 (by decide) rfl ?_
      refine j_iconst (v := (-1)) dX3_leastOf_63 (by decide) ?_
      refine j_istore dX3_leastOf_64 (by decide) rfl ?_
      refine j_iconst (v := 0) dX3_leastOf_66 (by decide) ?_
      refine j_istore dX3_leastOf_67 (by decide) rfl ?_
      refine j_less (L' := [some (.ref (r 100)), some (.int (nI v)), some (.int (nI (encM m a))), some (.int (nI 0)), some (.int (-1)), some (.int (nI 0)), none, none, none, none]) ⟨Or.inr rfl, Or.inr rfl, Or.inr rfl, Or.inr rfl, Or.inr rfl, Or.inr rfl, Or.inl rfl, Or.inl rfl, Or.inl rfl, Or.inl rfl, trivial⟩ ?_
      refine j_lp11 (fun (cost emp : Nat) (fo : Int32) (b : A4) (fr ln mo hd : Nat → Int32) (c : Nat → Option Nat) (R : Nat → List Nat) (P : List Nat) => (mdS r dT g (nI kd) bs fg m nk b.1 b.2.1 b.2.2.1 b.2.2.2 F tk (vo V [(109, fr), (110, ln), (112, mo), (115, hd)]))) (fun cost emp fo _ _ _ _ _ _ _ _ => [some (.ref (r 100)), some (.int (nI v)), some (.int (nI (encM m a))), some (.int (nI emp)), some (.int fo), some (.int (nI cost)), none, none, none, none]) (fun cost emp fo b fr ln mo hd c R P => okA m b ∧ P.length ≤ 8 * m * m ∧ emp ≤ 100 ∧ cost + ((8 * m * m - P.length) * 101 + (100 - emp)) ≤ 8 * m * m * 101 + 100 ∧ ((fo = A ∧ ¬ fo = -1) ∨ (fo = -1 ∧ dkI st nk (fun k => (ks k).2.1) (fun x n => x = encM m a ∧ n = 0) (8 * m * m) (fun _ _ => False) cost c R P ∧ RGd (8 * m * m) c R hd ln mo ∧ (∀ s, s < 8 * m * m → fr s = oI (c s)) ∧ (∀ q s d, q < 100 → s ∈ R q → c s = some d → d + emp ≤ cost + 99) ∧ (∀ x, x ∈ P → ¬ x / 8 / m = v)))) (fun _ emp _ _ _ _ _ _ _ _ P => (8 * m * m - P.length) * 101 + (100 - emp)) ?_ 0 0 (-1) a _ ln mo hd _ _ [] ⟨ha, Nat.zero_le _, Nat.zero_le _, by show 0 + ((8 * m * m - 0) * 101 + (100 - 0)) ≤ _; omega, Or.inr ⟨rfl, dkI.start hea, hR, hfr8, hme0, fun x hx => absurd hx List.not_mem_nil⟩⟩
      clear ih hR hfr8 hfr9 hhd9 hme0 hd mo ln fr
      intro cost emp fo b fr ln mo hd c R P ⟨hb, hPl, hemp, hmeas, hfo⟩ ih
      refine j_iload_n dX3_leastOf_69 rfl ?_
      refine j_bipush (v := 100) dX3_leastOf_70 (by decide) ?_
      refine j_icmp_ge (tgt := 250) dX3_leastOf_72 (by decide) (fun c72 => ?_) (fun c72 => ?_)
      · skip
        have hemp2 : emp = 100 := by
          have := (nI_leI (by decide) (by omega)).mp (show nI 100 ≤ nI emp from c72)
          omega
        have hans : fo = A := by
          rcases hfo with q | ⟨q, hK9, hR, hfrc, hme, hnv⟩
          · exact q.1
          · rw [q]
            refine (hA0 (fun n x hx hxv => ?_)).symm
            obtain ⟨i, hi⟩ := hx
            rcases (hK9.far hstN i x n hi).2 with ⟨q1, _⟩ | ⟨_, q2, q3, q4⟩
            · exact hnv x q1 hxv
            · obtain ⟨s, hs⟩ := List.exists_mem_of_ne_nil _ q4
              obtain ⟨_, d, e1, _, e2, _⟩ := hK9.1 q2 s q3 hs
              have := hme q2 s d q3 hs e1
              omega
        refine j_aload_n dX3_leastOf_250 rfl ?_
        refine j_iload_n dX3_leastOf_251 rfl ?_
        refine j_callVv (m_setState hm hm2 (encM m a) (by omega)) dX3_leastOf_252 pmX3_setState q1360 q1362 qs47 (by first | rfl | assumption) rfl rfl rfl ⟨Nat.le_of_ble_eq_true rfl, Nat.le_of_ble_eq_true rfl⟩ ⟨Nat.le_of_ble_eq_true rfl, Nat.le_of_ble_eq_true rfl⟩ rfl (Nat.le_of_ble_eq_true rfl) ?_
        refine j_iload dX3_leastOf_255 rfl ?_
        refine j_iret dX3_leastOf_257 rfl rfl (Nat.le_refl _) (Nat.le_refl _) ?_
        rw [decM_encM ha]
        exact jm_i hans (vo_ms (by intro q hq; simp at hq; rcases hq with rfl | rfl | rfl | rfl <;> exact ⟨Nat.le_of_ble_eq_true rfl, Nat.le_of_ble_eq_true rfl⟩))
      · skip
        have hemp2 : emp < 100 := Nat.lt_of_not_le (fun q => c72 (show nI 100 ≤ nI emp from nI_le q (by omega)))
        refine j_iload dX3_leastOf_75 rfl ?_
        refine j_iconst (v := (-1)) dX3_leastOf_77 (by decide) ?_
        refine j_icmp_ne (tgt := 250) dX3_leastOf_78 (by decide) (fun c78 => ?_) (fun c78 => ?_)
        · skip
          have hans : fo = A := by
            rcases hfo with q | q
            · exact q.1
            · exact absurd q.1 c78
          refine j_aload_n dX3_leastOf_250 rfl ?_
          refine j_iload_n dX3_leastOf_251 rfl ?_
          refine j_callVv (m_setState hm hm2 (encM m a) (by omega)) dX3_leastOf_252 pmX3_setState q1360 q1362 qs47 (by first | rfl | assumption) rfl rfl rfl ⟨Nat.le_of_ble_eq_true rfl, Nat.le_of_ble_eq_true rfl⟩ ⟨Nat.le_of_ble_eq_true rfl, Nat.le_of_ble_eq_true rfl⟩ rfl (Nat.le_of_ble_eq_true rfl) ?_
          refine j_iload dX3_leastOf_255 rfl ?_
          refine j_iret dX3_leastOf_257 rfl rfl (Nat.le_refl _) (Nat.le_refl _) ?_
          rw [decM_encM ha]
          exact jm_i hans (vo_ms (by intro q hq; simp at hq; rcases hq with rfl | rfl | rfl | rfl <;> exact ⟨Nat.le_of_ble_eq_true rfl, Nat.le_of_ble_eq_true rfl⟩))
        · skip
          obtain ⟨hfo1, hK9, hR, hfrc, hme, hnv⟩ := hfo.resolve_left (fun q => q.2 c78)
          refine j_iinc dX3_leastOf_81 rfl (by decide) rfl ?_
          obtain ⟨M, hM⟩ : ∃ M, M = (8 * m * m - P.length) * 101 + (100 - emp) := ⟨_, rfl⟩
          refine j_less (L' := [some (.ref (r 100)), some (.int (nI v)), some (.int (nI (encM m a))), some (.int (nI (emp + 1))), some (.int (-1)), some (.int (nI cost)), none, none, none, none]) ⟨Or.inr rfl, Or.inr rfl, Or.inr rfl, Or.inr (by rw [← nI_inc]), Or.inr (by rw [hfo1]), Or.inr rfl, Or.inl rfl, Or.inl rfl, Or.inl rfl, Or.inl rfl, trivial⟩ ?_
          refine j_lp10 (fun (emp : Nat) (fo : Int32) (b : A4) (fr ln mo hd : Nat → Int32) (c : Nat → Option Nat) (R : Nat → List Nat) (P : List Nat) => (mdS r dT g (nI kd) bs fg m nk b.1 b.2.1 b.2.2.1 b.2.2.2 F tk (vo V [(109, fr), (110, ln), (112, mo), (115, hd)]))) (fun emp fo _ _ _ _ _ _ _ _ => [some (.ref (r 100)), some (.int (nI v)), some (.int (nI (encM m a))), some (.int (nI emp)), some (.int fo), some (.int (nI cost)), none, none, none, none]) (fun emp fo b fr ln mo hd c R P => okA m b ∧ P.length ≤ 8 * m * m ∧ emp ≤ 100 ∧ (8 * m * m - P.length) * 101 + (100 - emp) + 1 ≤ M ∧ dkI st nk (fun k => (ks k).2.1) (fun x n => x = encM m a ∧ n = 0) (8 * m * m) (fun _ _ => False) cost c R P ∧ RGd (8 * m * m) c R hd ln mo ∧ (∀ s, s < 8 * m * m → fr s = oI (c s)) ∧ (∀ q s d, q < 100 → s ∈ R q → c s = some d → d + emp ≤ cost + 100) ∧ ((fo = -1 ∧ (∀ x, x ∈ P → ¬ x / 8 / m = v)) ∨ (fo = A ∧ ¬ fo = -1))) (fun _ _ _ _ _ _ _ _ _ P => 8 * m * m - P.length) ?_ (emp + 1) (-1) b fr ln mo hd c R P ⟨hb, hPl, by omega, by omega, hK9, hR, hfrc, fun q s d hq hs hd => by have := hme q s d hq hs hd; omega, Or.inl ⟨rfl, hnv⟩⟩
          rw [← hM] at ih hmeas
          clear hK9 hR hfrc hme hnv hb hPl hfo hfo1 R c hd mo ln fr hM hemp hemp2
          skip
          intro emp fo b fr ln mo hd c R P ⟨hb, hPl, hemp, hms, hK9, hR, hfrc, hme, hfo⟩ ih2
          have hcb : cost ≤ 8080100 := by omega
          have hq0 : cost % 100 < 100 := Nat.mod_lt _ (by decide)
          refine j_aload_n dX3_leastOf_84 rfl ?_
          refine j_get 40 dX3_leastOf_85 (by first | rfl | assumption) in_X3 rfl (by decide) q1139 rfl ?_
          refine j_iload dX3_leastOf_88 rfl ?_
          refine j_bipush (v := 100) dX3_leastOf_90 (by decide) ?_
          refine j_irem dX3_leastOf_92 (by decide) ?_
          refine j_eqi (show _ = nI (cost % 100) from pk_rem (d := 100) (by omega) (by decide) (by decide)) ?_
          refine j_iald 0 (cost % 100) dX3_leastOf_93 (by first | rfl | assumption) rfl rfl hq0 (by decide) ?_
          refine j_iconst (v := (-1)) dX3_leastOf_94 (by decide) ?_
          refine j_icmp_eq (tgt := 244) dX3_leastOf_95 (by decide) (fun c95 => ?_) (fun c95 => ?_)
          · skip
            have hRe := hR.nil hmm hq0 c95
            have hnx : (fo = A ∧ ¬ fo = -1) ∨ (fo = -1 ∧ dkI st nk (fun k => (ks k).2.1) (fun x n => x = encM m a ∧ n = 0) (8 * m * m) (fun _ _ => False) (cost + 1) c R P ∧ RGd (8 * m * m) c R hd ln mo ∧ (∀ s, s < 8 * m * m → fr s = oI (c s)) ∧ (∀ q s d, q < 100 → s ∈ R q → c s = some d → d + emp ≤ cost + 1 + 99) ∧ (∀ x, x ∈ P → ¬ x / 8 / m = v)) := by
              rcases hfo with q | q
              · exact Or.inr ⟨q.1, hK9.next hRe, hR, hfrc, fun q s d hq hs hd => by have := hme q s d hq hs hd; omega, q.2⟩
              · exact Or.inl q
            refine j_iinc dX3_leastOf_244 rfl (by decide) rfl ?_
            refine j_goto (tgt := 69) dX3_leastOf_247 (by decide) ?_
            refine j_less (L' := [some (.ref (r 100)), some (.int (nI v)), some (.int (nI (encM m a))), some (.int (nI emp)), some (.int fo), some (.int (nI (cost + 1))), none, none, none, none]) ⟨Or.inr rfl, Or.inr rfl, Or.inr rfl, Or.inr rfl, Or.inr rfl, Or.inr (by rw [← nI_inc]), Or.inl rfl, Or.inl rfl, Or.inl rfl, Or.inl rfl, trivial⟩ ?_
            exact ih (cost + 1) emp fo b fr ln mo hd c R P ⟨hb, hPl, hemp, by omega, hnx⟩ (by omega)
          · skip
            obtain ⟨s, l9, hRe, hbe, hsN⟩ := hR.cons hq0 c95
            refine j_iload dX3_leastOf_98 rfl ?_
            refine j_iconst (v := (-1)) dX3_leastOf_100 (by decide) ?_
            refine j_icmp_ne (tgt := 244) dX3_leastOf_101 (by decide) (fun c101 => ?_) (fun c101 => ?_)
            · skip
              have hnx : (fo = A ∧ ¬ fo = -1) ∨ (fo = -1 ∧ dkI st nk (fun k => (ks k).2.1) (fun x n => x = encM m a ∧ n = 0) (8 * m * m) (fun _ _ => False) (cost + 1) c R P ∧ RGd (8 * m * m) c R hd ln mo ∧ (∀ s, s < 8 * m * m → fr s = oI (c s)) ∧ (∀ q s d, q < 100 → s ∈ R q → c s = some d → d + emp ≤ cost + 1 + 99) ∧ (∀ x, x ∈ P → ¬ x / 8 / m = v)) := by
                rcases hfo with q | q
                · exact absurd q.1 c101
                · exact Or.inl q
              refine j_iinc dX3_leastOf_244 rfl (by decide) rfl ?_
              refine j_goto (tgt := 69) dX3_leastOf_247 (by decide) ?_
              refine j_less (L' := [some (.ref (r 100)), some (.int (nI v)), some (.int (nI (encM m a))), some (.int (nI emp)), some (.int fo), some (.int (nI (cost + 1))), none, none, none, none]) ⟨Or.inr rfl, Or.inr rfl, Or.inr rfl, Or.inr rfl, Or.inr rfl, Or.inr (by rw [← nI_inc]), Or.inl rfl, Or.inl rfl, Or.inl rfl, Or.inl rfl, trivial⟩ ?_
              exact ih (cost + 1) emp fo b fr ln mo hd c R P ⟨hb, hPl, hemp, by omega, hnx⟩ (by omega)
            · skip
              have hnv := (hfo.resolve_right (fun q => q.2 c101)).2
              obtain ⟨hpop, hcs, hsN, hsP⟩ := hK9.pop (s := s) (hR _ hq0).2.1 (by rw [hRe]; exact List.mem_cons_self)
              have hfrs : fr s = nI cost := by rw [hfrc s hsN, hcs]; rfl
              have hPl2 : P.length + 1 ≤ 8 * m * m := nodup_le _ (s :: P) hpop.2.1.1 (fun x hx => (hpop.2.1.2 x hx).1)
              have hfnd : s / 8 / m = v → nI cost = A := fun hsv => hA1 cost ⟨s, (hK9.2.2.1 s cost hsN hcs).1, hsv⟩ (fun n x hx hxv => by
                obtain ⟨i, hi⟩ := hx
                rcases (hK9.far hstN i x n hi).2 with ⟨q1, _⟩ | ⟨q2, _⟩
                · exact absurd hxv (hnv x q1)
                · exact q2)
              refine j_aload_n dX3_leastOf_104 rfl ?_
              refine j_get 40 dX3_leastOf_105 (by first | rfl | assumption) in_X3 rfl (by decide) q1139 rfl ?_
              refine j_iload dX3_leastOf_108 rfl ?_
              refine j_bipush (v := 100) dX3_leastOf_110 (by decide) ?_
              refine j_irem dX3_leastOf_112 (by decide) ?_
              refine j_eqi (show _ = nI (cost % 100) from pk_rem (d := 100) (by omega) (by decide) (by decide)) ?_
              refine j_iald 0 (cost % 100) dX3_leastOf_113 (by first | rfl | assumption) rfl rfl hq0 (by decide) ?_
              refine j_eqi hbe ?_
              refine j_istore dX3_leastOf_114 (by decide) rfl ?_
              refine j_aload_n dX3_leastOf_116 rfl ?_
              refine j_iload dX3_leastOf_117 rfl ?_
              refine j_callV (m_takeOut (fr := fr) hmm hR s cost hsN hcs hfrs (by omega) (by rw [hRe]; exact List.mem_cons_self)) q_ring.isR dX3_leastOf_119 pmX3_takeOut q1380 q1382 qs50 (by first | rfl | assumption) rfl rfl rfl ⟨Nat.le_of_ble_eq_true rfl, Nat.le_of_ble_eq_true rfl⟩ ⟨Nat.le_of_ble_eq_true rfl, Nat.le_of_ble_eq_true rfl⟩ rfl (Nat.le_of_ble_eq_true rfl) ?_
              rintro v9 r h9 nx ⟨e9, rfl, rfl, ln, mo, hd, rfl, hR9⟩
              cases e9
              clear hR
              rename RGd _ _ _ _ _ _ => hR
              refine j_iconst (v := 0) dX3_leastOf_122 (by decide) ?_
              refine j_istore_n dX3_leastOf_123 (by decide) rfl ?_
              refine j_join (tgt := 140) (fun x => x = if s / 8 / m = v then nI cost else -1) (fun v124 hv124 => ?_) (fun kj124 => ?_)
              · skip
                generalize v124 = fn at hv124 ⊢
                have hfn := hv124
                clear hv124
                refine j_istore dX3_leastOf_140 (by decide) rfl ?_
                refine j_iconst (v := 0) dX3_leastOf_142 (by decide) ?_
                refine j_istore dX3_leastOf_143 (by decide) rfl ?_
                refine j_less (L' := [some (.ref (r 100)), some (.int (nI v)), some (.int (nI (encM m a))), some (.int (nI 0)), some (.int fn), some (.int (nI cost)), some (.int (nI s)), some (.int (nI 0)), none, none]) ⟨Or.inr rfl, Or.inr rfl, Or.inr rfl, Or.inr rfl, Or.inr rfl, Or.inr rfl, Or.inr rfl, Or.inr rfl, Or.inl rfl, Or.inl rfl, trivial⟩ ?_
                refine j_lp8 (fun (k : Nat) (b : A4) (fr ln mo hd : Nat → Int32) (c : Nat → Option Nat) (R : Nat → List Nat) => (mdS r dT g (nI kd) bs fg m nk b.1 b.2.1 b.2.2.1 b.2.2.2 F tk (vo V [(109, fr), (110, ln), (112, mo), (115, hd)]))) (fun k _ _ _ _ _ _ _ => [some (.ref (r 100)), some (.int (nI v)), some (.int (nI (encM m a))), some (.int (nI 0)), some (.int fn), some (.int (nI cost)), some (.int (nI s)), some (.int (nI k)), none, none]) (fun k b fr ln mo hd c R => k ≤ nk ∧ okA m b ∧ dkI st nk (fun k => (ks k).2.1) (fun x n => x = encM m a ∧ n = 0) (8 * m * m) (spE s k) cost c R (s :: P) ∧ c s = some cost ∧ RGd (8 * m * m) c R hd ln mo ∧ (∀ s, s < 8 * m * m → fr s = oI (c s))) (fun k _ _ _ _ _ _ _ => nk - k) ?_ 0 b fr ln mo hd c _ ⟨Nat.zero_le _, hb, hpop, hcs, hR, hfrc⟩
                clear hK9 hR hfrc hme hfo hb hpop hcs
                intro k b fr ln mo hd c R ⟨hk, hb, hK9, hcs, hR, hfrc⟩ ih3
                refine j_iload dX3_leastOf_145 rfl ?_
                refine j_aload_n dX3_leastOf_147 rfl ?_
                refine j_get 4 dX3_leastOf_148 (by first | rfl | assumption) in_X3 rfl (by decide) q1103 rfl ?_
                refine j_icmp_ge (tgt := 241) dX3_leastOf_151 (by decide) (fun c151 => ?_) (fun c151 => ?_)
                · skip
                  have hkk : k = nk := by
                    have := (nI_leI (by omega) (by omega)).mp c151
                    omega
                  subst hkk
                  refine j_goto (tgt := 84) dX3_leastOf_241 (by decide) ?_
                  refine j_less (L' := [some (.ref (r 100)), some (.int (nI v)), some (.int (nI (encM m a))), some (.int (nI 0)), some (.int fn), some (.int (nI cost)), none, none, none, none]) ⟨Or.inr rfl, Or.inr rfl, Or.inr rfl, Or.inr rfl, Or.inr rfl, Or.inr rfl, Or.inl rfl, Or.inl rfl, Or.inl rfl, Or.inl rfl, trivial⟩ ?_
                  have hK8 := hK9.fin
                  refine ih2 0 fn b fr ln mo hd c R (s :: P) ⟨hb, hPl2, Nat.zero_le _, by rw [List.length_cons]; omega, hK8, hR, hfrc, fun q x d hq hx hd9 => ?_, ?_⟩ (by rw [List.length_cons]; omega)
                  · obtain ⟨_, d2, e1, _, _, e2⟩ := hK8.1 q x hq hx
                    rw [hd9] at e1
                    cases e1
                    omega
                  · by_cases hsv : s / 8 / m = v
                    · rw [if_pos hsv] at hfn
                      exact Or.inr ⟨hfn.trans (hfnd hsv), by rw [hfn]; exact nI_m1 (by omega)⟩
                    · rw [if_neg hsv] at hfn
                      refine Or.inl ⟨hfn, fun x hx => ?_⟩
                      rcases List.mem_cons.mp hx with rfl | hx
                      · exact hsv
                      · exact hnv x hx
                · skip
                  have hkn : k < nk := Nat.lt_of_not_le (fun q => c151 (nI_le q (by omega)))
                  have hto := hstN s k hsN hkn
                  have hox : okA m (stk kd bs m (ks k) (decM m s)) := stk_ok hD (hks k hkn).2 (decM_ok hm hsN)
                  have hwk : 1 ≤ (ks k).2.1 ∧ (ks k).2.1 ≤ 99 := ⟨hw1 k hkn, (hks k hkn).2.2.1⟩
                  refine j_aload_n dX3_leastOf_154 rfl ?_
                  refine j_iload dX3_leastOf_155 rfl ?_
                  refine j_iload dX3_leastOf_157 rfl ?_
                  refine j_callVi (m_behind (V := (vo V [(109, fr), (110, ln), (112, mo), (115, hd)])) hD k (by omega) (ks k) (hks k hkn).2 (hks k hkn).1.w s hsN) dX3_leastOf_159 pmX3_behind q1356 q1358 qs46 (by first | rfl | assumption) rfl rfl rfl ⟨Nat.le_of_ble_eq_true rfl, Nat.le_of_ble_eq_true rfl⟩ ⟨Nat.le_of_ble_eq_true rfl, Nat.le_of_ble_eq_true rfl⟩ rfl (Nat.le_of_ble_eq_true rfl) ?_
                  rw [hstE]
                  generalize stk kd bs m (ks k) (decM m s) = b9 at hox ⊢
                  refine j_istore dX3_leastOf_162 (by decide) rfl ?_
                  refine j_iload dX3_leastOf_164 rfl ?_
                  refine j_aload_n dX3_leastOf_166 rfl ?_
                  refine j_get 5 dX3_leastOf_167 (by first | rfl | assumption) in_X3 rfl (by decide) q1104 rfl ?_
                  refine j_iconst (v := 4) dX3_leastOf_170 (by decide) ?_
                  refine j_iload dX3_leastOf_171 rfl ?_
                  refine j_imul dX3_leastOf_173 ?_
                  refine j_iconst (v := 1) dX3_leastOf_174 (by decide) ?_
                  refine j_iadd dX3_leastOf_175 ?_
                  refine j_iald 0 (4 * k + 1) dX3_leastOf_176 (by first | rfl | assumption) rfl (by rw [show (4 : Int32) = nI 4 from rfl, pk_mul, show (1 : Int32) = nI 1 from rfl, nI_add]) (by show _ < 36; omega) (by decide) ?_
                  refine j_eqi (show _ = nI (ks k).2.1 from (hks k hkn).1.2.1) ?_
                  refine j_iadd dX3_leastOf_177 ?_
                  refine j_eqi (show _ = nI (cost + (ks k).2.1) from nI_add _ _) ?_
                  refine j_istore dX3_leastOf_178 (by decide) rfl ?_
                  refine j_aload_n dX3_leastOf_180 rfl ?_
                  refine j_get 34 dX3_leastOf_181 (by first | rfl | assumption) in_X3 rfl (by decide) q1133 rfl ?_
                  refine j_iload dX3_leastOf_184 rfl ?_
                  refine j_iald 0 (st k s) dX3_leastOf_186 (by first | rfl | assumption) rfl rfl (by show (st k s) < 80000; omega) (by decide) ?_
                  refine j_eqi (hfrc _ hto) ?_
                  refine j_iconst (v := (-1)) dX3_leastOf_187 (by decide) ?_
                  refine j_icmp_eq (tgt := 203) dX3_leastOf_188 (by decide) (fun c188 => ?_) (fun c188 => ?_)
                  · skip
                    have hcn : c (st k s) = none := (oI_m (fun w hw => by have := hK9.bd hto hw; omega)).mp c188
                    have hlt : ∀ d, c (st k s) = some d → cost + (ks k).2.1 < d := fun d hd9 => by rw [hcn] at hd9; cases hd9
                    refine j_aload_n dX3_leastOf_203 rfl ?_
                    refine j_get 34 dX3_leastOf_204 (by first | rfl | assumption) in_X3 rfl (by decide) q1133 rfl ?_
                    refine j_iload dX3_leastOf_207 rfl ?_
                    refine j_iald 0 (st k s) dX3_leastOf_209 (by first | rfl | assumption) rfl rfl (by show (st k s) < 80000; omega) (by decide) ?_
                    refine j_eqi (hfrc _ hto) ?_
                    refine j_iconst (v := (-1)) dX3_leastOf_210 (by decide) ?_
                    refine j_icmp_eq (tgt := 220) dX3_leastOf_211 (by decide) (fun c211 => ?_) (fun c211 => absurd (by rw [hcn]; rfl) c211)
                    refine j_aload_n dX3_leastOf_220 rfl ?_
                    refine j_get 34 dX3_leastOf_221 (by first | rfl | assumption) in_X3 rfl (by decide) q1133 rfl ?_
                    refine j_iload dX3_leastOf_224 rfl ?_
                    refine j_iload dX3_leastOf_226 rfl ?_
                    refine j_iast 0 (st k s) dX3_leastOf_228 (by first | rfl | assumption) rfl rfl (by show (st k s) < 80000; omega) (by decide) ?_
                    refine j_mdW (f := _) (by decide) (by decide) rfl ?_
                    refine j_aload_n dX3_leastOf_229 rfl ?_
                    refine j_iload dX3_leastOf_230 rfl ?_
                    have hR1 : ∀ q x, q < 100 → (x ∈ R q ↔ x ∈ R q ∧ x ≠ st k s) := hR.no hcn
                    have hR3 : RGd (8 * m * m) (va_up c (st k s) (some (cost + (ks k).2.1))) R hd ln mo := hR.cg (fun q x hq hx => va_up_ne _ _ ((hR1 q x hq).mp hx).2)
                    have hpt := hK9.put hkn hsN hcs hwk hto hlt hR1
                    refine j_callV (m_putIn (fr := upd fr (st k s) (nI (cost + (ks k).2.1))) hmm hR3 (st k s) (cost + (ks k).2.1) hto (va_up_self _ _ _) pk_us (by omega) (fun q hq hx => ((hR1 q _ hq).mp hx).2 rfl)) q_ring.isR dX3_leastOf_232 pmX3_putIn q1376 q1378 qs49 (by first | rfl | assumption) rfl rfl rfl ⟨Nat.le_of_ble_eq_true rfl, Nat.le_of_ble_eq_true rfl⟩ ⟨Nat.le_of_ble_eq_true rfl, Nat.le_of_ble_eq_true rfl⟩ rfl (Nat.le_of_ble_eq_true rfl) ?_
                    rintro v9 r h9 nx ⟨e9, rfl, rfl, ln, mo, hd, rfl, hR4⟩
                    cases e9
                    refine j_iinc dX3_leastOf_235 rfl (by decide) rfl ?_
                    refine j_goto (tgt := 145) dX3_leastOf_238 (by decide) ?_
                    refine j_less (L' := [some (.ref (r 100)), some (.int (nI v)), some (.int (nI (encM m a))), some (.int (nI 0)), some (.int fn), some (.int (nI cost)), some (.int (nI s)), some (.int (nI (k + 1))), none, none]) ⟨Or.inr rfl, Or.inr rfl, Or.inr rfl, Or.inr rfl, Or.inr rfl, Or.inr rfl, Or.inr rfl, Or.inr (by rw [← nI_inc]), Or.inl rfl, Or.inl rfl, trivial⟩ ?_
                    exact ih3 (k + 1) _ _ _ _ _ _ _ ⟨by omega, hox, hpt.1, hpt.2, hR4, fr_up hfrc _ _⟩ (by omega)
                  · skip
                    obtain ⟨d', hcn⟩ : ∃ d', c (st k s) = some d' := by
                      cases hq : c (st k s) with
                      | none => rw [hq] at c188; exact absurd rfl c188
                      | some d' => exact ⟨d', rfl⟩
                    have hdb := hK9.bd hto hcn
                    have hoe : oI (c (st k s)) = nI d' := by rw [hcn]; rfl
                    refine j_iload dX3_leastOf_191 rfl ?_
                    refine j_aload_n dX3_leastOf_193 rfl ?_
                    refine j_get 34 dX3_leastOf_194 (by first | rfl | assumption) in_X3 rfl (by decide) q1133 rfl ?_
                    refine j_iload dX3_leastOf_197 rfl ?_
                    refine j_iald 0 (st k s) dX3_leastOf_199 (by first | rfl | assumption) rfl rfl (by show (st k s) < 80000; omega) (by decide) ?_
                    refine j_eqi ((hfrc _ hto).trans hoe) ?_
                    refine j_icmp_ge (tgt := 235) dX3_leastOf_200 (by decide) (fun c200 => ?_) (fun c200 => ?_)
                    · skip
                      have hle : d' ≤ cost + (ks k).2.1 := (nI_leI (by omega) (by omega)).mp c200
                      refine j_iinc dX3_leastOf_235 rfl (by decide) rfl ?_
                      refine j_goto (tgt := 145) dX3_leastOf_238 (by decide) ?_
                      refine j_less (L' := [some (.ref (r 100)), some (.int (nI v)), some (.int (nI (encM m a))), some (.int (nI 0)), some (.int fn), some (.int (nI cost)), some (.int (nI s)), some (.int (nI (k + 1))), none, none]) ⟨Or.inr rfl, Or.inr rfl, Or.inr rfl, Or.inr rfl, Or.inr rfl, Or.inr rfl, Or.inr rfl, Or.inr (by rw [← nI_inc]), Or.inl rfl, Or.inl rfl, trivial⟩ ?_
                      exact ih3 (k + 1) _ _ _ _ _ c R ⟨by omega, hox, hK9.skip hcs hcn (by omega), hcs, hR, hfrc⟩ (by omega)
                    · skip
                      have hle : cost + (ks k).2.1 < d' := Nat.lt_of_not_le (fun q => c200 (nI_le q (by omega)))
                      have hlt : ∀ d, c (st k s) = some d → cost + (ks k).2.1 < d := fun d hd9 => by rw [hcn] at hd9; cases hd9; exact hle
                      have hin : st k s ∈ R (d' % 100) := by
                        rcases (hK9.2.2.1 _ d' hto hcn).2 with q | q
                        · obtain ⟨_, _, d2, e1, e2⟩ := hK9.2.1.2 _ q
                          rw [hcn] at e1
                          cases e1
                          omega
                        · exact q
                      refine j_aload_n dX3_leastOf_203 rfl ?_
                      refine j_get 34 dX3_leastOf_204 (by first | rfl | assumption) in_X3 rfl (by decide) q1133 rfl ?_
                      refine j_iload dX3_leastOf_207 rfl ?_
                      refine j_iald 0 (st k s) dX3_leastOf_209 (by first | rfl | assumption) rfl rfl (by show (st k s) < 80000; omega) (by decide) ?_
                      refine j_eqi (hfrc _ hto) ?_
                      refine j_iconst (v := (-1)) dX3_leastOf_210 (by decide) ?_
                      refine j_icmp_eq (tgt := 220) dX3_leastOf_211 (by decide) (fun c211 => absurd c211 (by rw [hoe]; exact nI_m1 (by omega))) (fun c211 => ?_)
                      refine j_aload_n dX3_leastOf_214 rfl ?_
                      refine j_iload dX3_leastOf_215 rfl ?_
                      refine j_callV (m_takeOut (fr := fr) hmm hR (st k s) d' hto hcn ((hfrc _ hto).trans hoe) (by omega) hin) q_ring.isR dX3_leastOf_217 pmX3_takeOut q1380 q1382 qs50 (by first | rfl | assumption) rfl rfl rfl ⟨Nat.le_of_ble_eq_true rfl, Nat.le_of_ble_eq_true rfl⟩ ⟨Nat.le_of_ble_eq_true rfl, Nat.le_of_ble_eq_true rfl⟩ rfl (Nat.le_of_ble_eq_true rfl) ?_
                      rintro v9 r h9 nx ⟨e9, rfl, rfl, ln, mo, hd, rfl, hR2⟩
                      cases e9
                      refine j_aload_n dX3_leastOf_220 rfl ?_
                      refine j_get 34 dX3_leastOf_221 (by first | rfl | assumption) in_X3 rfl (by decide) q1133 rfl ?_
                      refine j_iload dX3_leastOf_224 rfl ?_
                      refine j_iload dX3_leastOf_226 rfl ?_
                      refine j_iast 0 (st k s) dX3_leastOf_228 (by first | rfl | assumption) rfl rfl (by show (st k s) < 80000; omega) (by decide) ?_
                      refine j_mdW (f := _) (by decide) (by decide) rfl ?_
                      refine j_aload_n dX3_leastOf_229 rfl ?_
                      refine j_iload dX3_leastOf_230 rfl ?_
                      have hR1 : ∀ q x, q < 100 → (x ∈ (va_up R (d' % 100) ((R (d' % 100)).erase (st k s))) q ↔ x ∈ R q ∧ x ≠ st k s) := hR.er hcn
                      have hR3 : RGd (8 * m * m) (va_up c (st k s) (some (cost + (ks k).2.1))) (va_up R (d' % 100) ((R (d' % 100)).erase (st k s))) hd ln mo := hR2.cg (fun q x hq hx => va_up_ne _ _ ((hR1 q x hq).mp hx).2)
                      have hpt := hK9.put hkn hsN hcs hwk hto hlt hR1
                      refine j_callV (m_putIn (fr := upd fr (st k s) (nI (cost + (ks k).2.1))) hmm hR3 (st k s) (cost + (ks k).2.1) hto (va_up_self _ _ _) pk_us (by omega) (fun q hq hx => ((hR1 q _ hq).mp hx).2 rfl)) q_ring.isR dX3_leastOf_232 pmX3_putIn q1376 q1378 qs49 (by first | rfl | assumption) rfl rfl rfl ⟨Nat.le_of_ble_eq_true rfl, Nat.le_of_ble_eq_true rfl⟩ ⟨Nat.le_of_ble_eq_true rfl, Nat.le_of_ble_eq_true rfl⟩ rfl (Nat.le_of_ble_eq_true rfl) ?_
                      rintro v9 r h9 nx ⟨e9, rfl, rfl, ln, mo, hd, rfl, hR4⟩
                      cases e9
                      refine j_iinc dX3_leastOf_235 rfl (by decide) rfl ?_
                      refine j_goto (tgt := 145) dX3_leastOf_238 (by decide) ?_
                      refine j_less (L' := [some (.ref (r 100)), some (.int (nI v)), some (.int (nI (encM m a))), some (.int (nI 0)), some (.int fn), some (.int (nI cost)), some (.int (nI s)), some (.int (nI (k + 1))), none, none]) ⟨Or.inr rfl, Or.inr rfl, Or.inr rfl, Or.inr rfl, Or.inr rfl, Or.inr rfl, Or.inr rfl, Or.inr (by rw [← nI_inc]), Or.inl rfl, Or.inl rfl, trivial⟩ ?_
                      exact ih3 (k + 1) _ _ _ _ _ _ _ ⟨by omega, hox, hpt.1, hpt.2, hR4, fr_up hfrc _ _⟩ (by omega)
              · skip
                refine j_aload_n dX3_leastOf_124 rfl ?_
                refine j_iload dX3_leastOf_125 rfl ?_
                refine j_callVi (m_shownIn hm hm2 s (by omega)) dX3_leastOf_127 pmX3_shownIn q1352 q1354 qs45 (by first | rfl | assumption) rfl rfl rfl ⟨Nat.le_of_ble_eq_true rfl, Nat.le_of_ble_eq_true rfl⟩ ⟨Nat.le_of_ble_eq_true rfl, Nat.le_of_ble_eq_true rfl⟩ rfl (Nat.le_of_ble_eq_true rfl) ?_
                refine j_iload_n dX3_leastOf_130 rfl ?_
                refine j_icmp_ne (tgt := 139) dX3_leastOf_131 (by decide) (fun c131 => ?_) (fun c131 => ?_)
                · skip
                  have hj : (-1 : Int32) = if s / 8 / m = v then nI cost else -1 := by rw [if_neg (fun q => c131 (by rw [q]))]
                  refine j_iconst (v := (-1)) dX3_leastOf_139 (by decide) ?_
                  exact kj124 _ hj
                · skip
                  have hsm : s / 8 / m < m := (decM_ok hm hsN).2.2.1
                  have hj : nI cost = if s / 8 / m = v then nI cost else -1 := by rw [if_pos ((nI_eq (by omega) (by omega)).mp c131)]
                  refine j_iload dX3_leastOf_134 rfl ?_
                  refine j_goto (tgt := 140) dX3_leastOf_136 (by decide) ?_
                  exact kj124 _ hj
    · skip
      have hk1 : k < 100 := Nat.lt_of_not_le (fun q => c33 (show nI 100 ≤ nI k from nI_le q (by omega)))
      refine j_aload_n dX3_leastOf_36 rfl ?_
      refine j_get 40 dX3_leastOf_37 (by first | rfl | assumption) in_X3 rfl (by decide) q1139 rfl ?_
      refine j_iload_n dX3_leastOf_40 rfl ?_
      refine j_iconst (v := (-1)) dX3_leastOf_41 (by decide) ?_
      refine j_iast 0 k dX3_leastOf_42 (by first | rfl | assumption) rfl rfl (by show k < 100; omega) (by decide) ?_
      refine j_mdW (f := _) (by decide) (by decide) rfl ?_
      refine j_iinc dX3_leastOf_43 rfl (by decide) rfl ?_
      refine j_goto (tgt := 30) dX3_leastOf_46 (by decide) ?_
      refine j_less (L' := [some (.ref (r 100)), some (.int (nI v)), some (.int (nI (encM m a))), some (.int (nI (k + 1))), none, none, none, none, none, none]) ⟨Or.inr rfl, Or.inr rfl, Or.inr rfl, Or.inr (by rw [← nI_inc]), Or.inl rfl, Or.inl rfl, Or.inl rfl, Or.inl rfl, Or.inl rfl, Or.inl rfl, trivial⟩ ?_
      refine ih (k + 1) _ ⟨by omega, fun q hq => ?_⟩ (by omega)
      by_cases hqk : q = k
      · subst hqk; exact pk_us
      · exact (pk_un hqk).trans (hhd q (by omega))
  · skip
    have hk1 : k < 8 * m * m := Nat.lt_of_not_le (fun q => c12 (nI_le q (by omega)))
    refine j_aload_n dX3_leastOf_15 rfl ?_
    refine j_get 34 dX3_leastOf_16 (by first | rfl | assumption) in_X3 rfl (by decide) q1133 rfl ?_
    refine j_iload_n dX3_leastOf_19 rfl ?_
    refine j_iconst (v := (-1)) dX3_leastOf_20 (by decide) ?_
    refine j_iast 0 k dX3_leastOf_21 (by first | rfl | assumption) rfl rfl (by show k < 80000; omega) (by decide) ?_
    refine j_mdW (f := _) (by decide) (by decide) rfl ?_
    refine j_iinc dX3_leastOf_22 rfl (by decide) rfl ?_
    refine j_goto (tgt := 7) dX3_leastOf_25 (by decide) ?_
    refine j_less (L' := [some (.ref (r 100)), some (.int (nI v)), some (.int (nI (encM m a))), some (.int (nI (k + 1))), none, none, none, none, none, none]) ⟨Or.inr rfl, Or.inr rfl, Or.inr rfl, Or.inr (by rw [← nI_inc]), Or.inl rfl, Or.inl rfl, Or.inl rfl, Or.inl rfl, Or.inl rfl, Or.inl rfl, trivial⟩ ?_
    refine ih (k + 1) _ ⟨by omega, fun q hq => ?_⟩ (by omega)
    by_cases hqk : q = k
    · subst hqk; exact pk_us
    · exact (pk_un hqk).trans (hfr q (by omega))
set_option maxHeartbeats 4000000 in
theorem m_least1 {l : Launch} {D : va_G} {dT : Nat → ClassId} {H0 : Heap} {r : Nat → Nat} {nx : Nat} {g : j_H} {kd bs fg m nk : Nat} {a : A4} {F : Nat → Nat} {tk : Int64} {V : Nat → Nat → Int32} (hD : okD kd bs m) (ha : okA m a) {ks : Nat → KY} (hks : mdKs (V 101) bs m nk ks) (hn8 : nk ≤ 8) (hw1 : ∀ k, k < nk → 1 ≤ (ks k).2.1) (v : Nat) (hv : v < m) : MC (gG l D dT H0) yX3_least cX3_least 2 (some .int) 7 0 0 [.ref (r 100), .int (nI v)] r (mdS r dT g (nI kd) bs fg m nk a.1 a.2.1 a.2.2.1 a.2.2.2 F tk V) nx (jq_m (lstN (fun n => ∃ b, rcE (fun k a => stk kd bs m (ks k) a) nk (fun k => (ks k).2.1) (fun b n => b = a ∧ n = 0) b n ∧ b.2.2.1 = v)) r dT g (nI kd) bs fg m nk a F tk V nx) := by
  have hm := hD.pos
  have hm2 := hD.le
  have hm3 : 2 ≤ m := by have := hD.2.1; have := hD.2.2.2.1; omega
  have hkd := hD.1
  refine MC.ofJ [some (.ref (r 100)), some (.int (nI v))] rfl (Nat.le_of_ble_eq_true rfl) (by decide) ?_
  refine j_aload_n dX3_least_0 rfl ?_
  refine j_iload_n dX3_least_1 rfl ?_
  refine j_callVi (m_isNumber _) dX3_least_2 pmX3_isNumber q1336 q1338 qs41 (by first | rfl | assumption) rfl rfl rfl ⟨Nat.le_of_ble_eq_true rfl, Nat.le_of_ble_eq_true rfl⟩ ⟨Nat.le_of_ble_eq_true rfl, Nat.le_of_ble_eq_true rfl⟩ rfl (Nat.le_of_ble_eq_true rfl) ?_
  refine j_ifb_eq (tgt := 16) dX3_least_5 (by decide) (fun c5 => absurd (nI_inr hv (by omega)) c5) (fun c5 => ?_)
  refine j_aload_n dX3_least_8 rfl ?_
  refine j_iload_n dX3_least_9 rfl ?_
  refine j_callV (m_leastOf hD ha hks hn8 hw1 v hv) jq_m.isR dX3_least_10 pmX3_leastOf q1372 q1374 qs48 (by first | rfl | assumption) rfl rfl rfl ⟨Nat.le_of_ble_eq_true rfl, Nat.le_of_ble_eq_true rfl⟩ ⟨Nat.le_of_ble_eq_true rfl, Nat.le_of_ble_eq_true rfl⟩ rfl (Nat.le_of_ble_eq_true rfl) ?_
  rintro v9 r h9 nx ⟨e9, rfl, rfl, V9, rfl, hV9⟩
  cases e9
  refine j_goto (tgt := 18) dX3_least_13 (by decide) ?_
  refine j_iret dX3_least_18 rfl rfl (Nat.le_refl _) (Nat.le_refl _) ?_
  exact jm_i rfl hV9
