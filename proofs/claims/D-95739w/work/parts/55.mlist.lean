set_option maxRecDepth 100000
def q_go (r : Nat → Nat) (h : j_H) (nx had n v : Nat) (tg : Nat → Nat) : j_Q := fun o r' h' nx' => r' = r ∧ h' = h ∧ nx' = nx ∧ ∃ had2, o = .returned (some (.int (nI had2))) ∧ had ≤ had2 ∧ had2 ≤ n ∧ (∀ q, had ≤ q → q < had2 → tg q = v) ∧ (had < n → tg had = v → had + 1 ≤ had2)
theorem q_go.isR {r : Nat → Nat} {h : j_H} {nx had n v : Nat} {tg : Nat → Nat} : j_isR (q_go r h nx had n v tg) := fun _ _ _ _ ⟨_, _, _, _, hq⟩ => ⟨_, hq.1⟩
def q_ins (r : Nat → Nat) (dT : Nat → ClassId) (g : j_H) (kI : Int32) (bs fg m nk : Nat) (a : A4) (F : Nat → Nat) (tk : Int64) (V : Nat → Nat → Int32) (nx : Nat) (fr ln by' mo : Nat → Int32) (i n s : Nat) : j_Q := fun o r' h' nx' => o = .returned none ∧ r' = r ∧ nx' = nx ∧ ∃ l2 : Nat → Int32, h' = (mdS r dT g kI bs fg m nk a.1 a.2.1 a.2.2.1 a.2.2.2 F tk (vo V [(109, fr), (110, l2), (111, by'), (112, mo)])) ∧ (∀ j, j < i → l2 j = ln j) ∧ l2 i = nI s ∧ ∀ j, i < j → j ≤ n → l2 j = ln (j - 1)
theorem q_ins.isR {r : Nat → Nat} {dT : Nat → ClassId} {g : j_H} {kI : Int32} {bs fg m nk : Nat} {a : A4} {F : Nat → Nat} {tk : Int64} {V : Nat → Nat → Int32} {nx : Nat} {fr ln by' mo : Nat → Int32} {i n s : Nat} : j_isR (q_ins r dT g kI bs fg m nk a F tk V nx fr ln by' mo i n s) := fun _ _ _ _ hq => ⟨_, hq.1⟩
set_option maxHeartbeats 4000000 in
theorem m_goOn {l : Launch} {D : va_G} {dT : Nat → ClassId} {H0 : Heap} {r : Nat → Nat} {nx : Nat} {g : j_H} {kI : Int32} {bs fg m nk : Nat} {a : A4} {F : Nat → Nat} {tk : Int64} {V : Nat → Nat → Int32} (had v : Nat) (tg : Nat → Nat) (htg : ∀ i, i < F 27 → V 104 i = nI (tg i) ∧ tg i < m) (hm2 : m ≤ 100) (hn6 : F 27 ≤ 6) (hh : had ≤ F 27) (hv : v < m) : MC (gG l D dT H0) yX3_goOn cX3_goOn 4 (some .int) 0 0 0 [.ref (r 100), .int (nI had), .int (nI v)] r (mdS r dT g kI bs fg m nk a.1 a.2.1 a.2.2.1 a.2.2.2 F tk V) nx (q_go r (mdS r dT g kI bs fg m nk a.1 a.2.1 a.2.2.1 a.2.2.2 F tk V) nx had (F 27) v tg) := by
  refine MC.ofJ [some (.ref (r 100)), some (.int (nI had)), some (.int (nI v)), none] rfl (Nat.le_of_ble_eq_true rfl) (by decide) ?_
  refine j_iload_n dX3_goOn_0 rfl ?_
  refine j_istore_n dX3_goOn_1 (by decide) rfl ?_
  refine j_less (L' := [some (.ref (r 100)), some (.int (nI had)), some (.int (nI v)), some (.int (nI had))]) ⟨Or.inr rfl, Or.inr rfl, Or.inr rfl, Or.inr rfl, trivial⟩ ?_
  refine j_lp1 (fun (i : Nat) => (mdS r dT g kI bs fg m nk a.1 a.2.1 a.2.2.1 a.2.2.2 F tk V)) (fun i => [some (.ref (r 100)), some (.int (nI had)), some (.int (nI v)), some (.int (nI i))]) (fun i => had ≤ i ∧ i ≤ F 27 ∧ (∀ q, had ≤ q → q < i → tg q = v)) (fun i => F 27 - i) ?_ had ⟨Nat.le_refl _, hh, fun q h1 h2 => absurd h2 (by omega)⟩
  intro i ⟨hi1, hi2, hi3⟩ ih
  refine j_iload_n dX3_goOn_2 rfl ?_
  refine j_aload_n dX3_goOn_3 rfl ?_
  refine j_get 27 dX3_goOn_4 (by first | rfl | assumption) in_X3 rfl (by decide) q1126 rfl ?_
  refine j_icmp_ge (tgt := 26) dX3_goOn_7 (by decide) (fun c7 => ?_) (fun c7 => ?_)
  · skip
    have hie : i = F 27 := by
      have := (nI_leI (by omega) (by omega)).mp c7
      omega
    have hlast : had < F 27 → tg had = v → had + 1 ≤ i := fun h1 _ => by omega
    refine j_iload_n dX3_goOn_26 rfl ?_
    refine j_iret dX3_goOn_27 rfl rfl (Nat.le_refl _) (Nat.le_refl _) ?_
    exact ⟨rfl, rfl, rfl, i, rfl, hi1, hi2, hi3, hlast⟩
  · skip
    have hil : i < F 27 := Nat.lt_of_not_le (fun q => c7 (nI_le q (by omega)))
    have htl := (htg i hil).2
    refine j_aload_n dX3_goOn_10 rfl ?_
    refine j_get 28 dX3_goOn_11 (by first | rfl | assumption) in_X3 rfl (by decide) q1127 rfl ?_
    refine j_iload_n dX3_goOn_14 rfl ?_
    refine j_iald 0 i dX3_goOn_15 (by first | rfl | assumption) rfl rfl (by show i < 6; omega) (by decide) ?_
    refine j_eqi (show _ = nI (tg i) from (htg i hil).1) ?_
    refine j_iload_n dX3_goOn_16 rfl ?_
    refine j_icmp_ne (tgt := 26) dX3_goOn_17 (by decide) (fun c17 => ?_) (fun c17 => ?_)
    · skip
      have hne : ¬ tg i = v := fun q => c17 (by rw [q])
      have hlast : had < F 27 → tg had = v → had + 1 ≤ i := fun _ h2 => by
        rcases Nat.lt_or_ge had i with q | q
        · exact q
        · exact absurd (by rw [show i = had by omega]; exact h2) hne
      refine j_iload_n dX3_goOn_26 rfl ?_
      refine j_iret dX3_goOn_27 rfl rfl (Nat.le_refl _) (Nat.le_refl _) ?_
      exact ⟨rfl, rfl, rfl, i, rfl, hi1, hi2, hi3, hlast⟩
    · skip
      have heq : tg i = v := (nI_eq (by omega) (by omega)).mp c17
      refine j_iinc dX3_goOn_20 rfl (by decide) rfl ?_
      refine j_goto (tgt := 2) dX3_goOn_23 (by decide) ?_
      refine j_less (L' := [some (.ref (r 100)), some (.int (nI had)), some (.int (nI v)), some (.int (nI (i + 1)))]) ⟨Or.inr rfl, Or.inr rfl, Or.inr rfl, Or.inr (by rw [← nI_inc]), trivial⟩ ?_
      exact ih (i + 1) ⟨by omega, by omega, fun q h1 h2 => by
        by_cases he : q = i
        · rw [he]; exact heq
        · exact hi3 q h1 (by omega)⟩ (by omega)
set_option maxHeartbeats 4000000 in
theorem m_insert {l : Launch} {D : va_G} {dT : Nat → ClassId} {H0 : Heap} {r : Nat → Nat} {nx : Nat} {g : j_H} {kI : Int32} {bs fg m nk : Nat} {a : A4} {F : Nat → Nat} {tk : Int64} {V : Nat → Nat → Int32} {fr ln by' mo : Nat → Int32} (i n s : Nat) (hin : i ≤ n) (hn : n < 80000) : MC (gG l D dT H0) yX3_insert cX3_insert 5 none 0 0 0 [.ref (r 100), .int (nI i), .int (nI n), .int (nI s)] r (mdS r dT g kI bs fg m nk a.1 a.2.1 a.2.2.1 a.2.2.2 F tk (vo V [(109, fr), (110, ln), (111, by'), (112, mo)])) nx (q_ins r dT g kI bs fg m nk a F tk V nx fr ln by' mo i n s) := by
  refine MC.ofJ [some (.ref (r 100)), some (.int (nI i)), some (.int (nI n)), some (.int (nI s)), none] rfl (Nat.le_of_ble_eq_true rfl) (by decide) ?_
  refine j_iload_n dX3_insert_0 rfl ?_
  refine j_istore dX3_insert_1 (by decide) rfl ?_
  refine j_less (L' := [some (.ref (r 100)), some (.int (nI i)), some (.int (nI n)), some (.int (nI s)), some (.int (nI n))]) ⟨Or.inr rfl, Or.inr rfl, Or.inr rfl, Or.inr rfl, Or.inr rfl, trivial⟩ ?_
  refine j_lp2 (fun (q : Nat) (l2 : Nat → Int32) => (mdS r dT g kI bs fg m nk a.1 a.2.1 a.2.2.1 a.2.2.2 F tk (vo V [(109, fr), (110, l2), (111, by'), (112, mo)]))) (fun q _ => [some (.ref (r 100)), some (.int (nI i)), some (.int (nI n)), some (.int (nI s)), some (.int (nI q))]) (fun q l2 => i ≤ q ∧ q ≤ n ∧ (∀ j, j ≤ q → l2 j = ln j) ∧ ∀ j, q < j → j ≤ n → l2 j = ln (j - 1)) (fun q _ => q) ?_ n ln ⟨hin, Nat.le_refl _, fun _ _ => rfl, fun j h1 h2 => absurd h2 (by omega)⟩
  intro q l2 ⟨hq1, hq2, hq3, hq4⟩ ih
  refine j_iload dX3_insert_3 rfl ?_
  refine j_iload_n dX3_insert_5 rfl ?_
  refine j_icmp_le (tgt := 31) dX3_insert_6 (by decide) (fun c6 => ?_) (fun c6 => ?_)
  · skip
    have hqi : q = i := by
      have := (nI_leI (by omega) (by omega)).mp c6
      omega
    subst hqi
    refine j_aload_n dX3_insert_31 rfl ?_
    refine j_get 35 dX3_insert_32 (by first | rfl | assumption) in_X3 rfl (by decide) q1134 rfl ?_
    refine j_iload_n dX3_insert_35 rfl ?_
    refine j_iload_n dX3_insert_36 rfl ?_
    refine j_iast 0 q dX3_insert_37 (by first | rfl | assumption) rfl rfl (by show q < 80000; omega) (by decide) ?_
    refine j_mdW (f := _) (by decide) (by decide) rfl ?_
    refine j_vret dX3_insert_38 rfl (Nat.le_refl _) (Nat.le_refl _) ?_
    exact ⟨rfl, rfl, rfl, _, rfl, fun j hj => (pk_un (by omega)).trans (hq3 j (by omega)), pk_us, fun j h1 h2 => (pk_un (by omega)).trans (hq4 j h1 h2)⟩
  · skip
    have hqi : i < q := Nat.lt_of_not_le (fun z => c6 (nI_le z (by omega)))
    have hqe : nI q - 1 = nI (q - 1) := by rw [show (1 : Int32) = nI 1 from rfl, nI_sub (by omega)]
    refine j_aload_n dX3_insert_9 rfl ?_
    refine j_get 35 dX3_insert_10 (by first | rfl | assumption) in_X3 rfl (by decide) q1134 rfl ?_
    refine j_iload dX3_insert_13 rfl ?_
    refine j_aload_n dX3_insert_15 rfl ?_
    refine j_get 35 dX3_insert_16 (by first | rfl | assumption) in_X3 rfl (by decide) q1134 rfl ?_
    refine j_iload dX3_insert_19 rfl ?_
    refine j_iconst (v := 1) dX3_insert_21 (by decide) ?_
    refine j_isub dX3_insert_22 ?_
    refine j_eqi hqe ?_
    refine j_iald 0 (q - 1) dX3_insert_23 (by first | rfl | assumption) rfl rfl (by show q - 1 < 80000; omega) (by decide) ?_
    refine j_eqi (show _ = ln (q - 1) from hq3 _ (by omega)) ?_
    refine j_iast 0 q dX3_insert_24 (by first | rfl | assumption) rfl rfl (by show q < 80000; omega) (by decide) ?_
    refine j_mdW (f := _) (by decide) (by decide) rfl ?_
    refine j_iinc dX3_insert_25 rfl (by decide) rfl ?_
    refine j_goto (tgt := 3) dX3_insert_28 (by decide) ?_
    refine j_less (L' := [some (.ref (r 100)), some (.int (nI i)), some (.int (nI n)), some (.int (nI s)), some (.int (nI (q - 1)))]) ⟨Or.inr rfl, Or.inr rfl, Or.inr rfl, Or.inr rfl, Or.inr (by rw [← hqe, ← i32_dec]), trivial⟩ ?_
    refine ih (q - 1) _ ⟨by omega, by omega, fun j hj => (pk_un (by omega)).trans (hq3 j (by omega)), fun j h1 h2 => ?_⟩ (by omega)
    by_cases he : j = q
    · rw [he, pk_us]
    · exact (pk_un he).trans (hq4 j (by omega) h2)
set_option maxHeartbeats 4000000 in
theorem m_listOf {l : Launch} {D : va_G} {dT : Nat → ClassId} {H0 : Heap} {r : Nat → Nat} {nx : Nat} {g : j_H} {kd bs fg m nk : Nat} {a : A4} {F : Nat → Nat} {tk : Int64} {V : Nat → Nat → Int32} (hD : okD kd bs m) (ha : okA m a) {ks : Nat → KY} (hks : mdKs (V 101) bs m nk ks) (hn8 : nk ≤ 8) (tg : Nat → Nat) (htg : ∀ i, i < F 27 → V 104 i = nI (tg i) ∧ tg i < m) (hn6 : F 27 ≤ 6) : MC (gG l D dT H0) yX3_listOf cX3_listOf 13 (some .int) 6 0 0 [.ref (r 100)] r (mdS r dT g (nI kd) bs fg m nk a.1 a.2.1 a.2.2.1 a.2.2.2 F tk V) nx (jq_m (lstN (fun n => (∃ b, stgA (fun k a => stk kd bs m (ks k) a) nk a tg (F 27) b n ∧ True) ∧ n < 999999)) r dT g (nI kd) bs fg m nk a F tk V nx) := by
  have hm := hD.pos
  have hm2 := hD.le
  have hm3 : 2 ≤ m := by have := hD.2.1; have := hD.2.2.2.1; omega
  have hkd := hD.1
  have hmm := mm_le hm2
  have hea := encM_lt ha
  have hN1 : [(encM m a, 0)].length ≤ 8 * m * m := by show 1 ≤ 8 * m * m; omega
  have hlk := stg_link (tg := tg) hD (fun k hk => (hks k hk).2) ha (F 27)
  have hstN : ∀ x k, x < 8 * m * m → k < nk → encM m (stk kd bs m (ks k) (decM m x)) < 8 * m * m := fun x k hx hk => encM_lt (stk_ok hD (hks k hk).2 (decM_ok hm hx))
  obtain ⟨A, hA⟩ : ∃ A : Int32, lstN (fun n => (∃ b, stgA (fun k a => stk kd bs m (ks k) a) nk a tg (F 27) b n ∧ True) ∧ n < 999999) = A := ⟨_, rfl⟩
  have hA1 : ∀ d x, stgN (fun k x => encM m (stk kd bs m (ks k) (decM m x))) nk (encM m a) (fun x => x / 8 / m) tg (F 27) x d → (∀ x' n', stgN (fun k x => encM m (stk kd bs m (ks k) (decM m x))) nk (encM m a) (fun x => x / 8 / m) tg (F 27) x' n' → d ≤ n') → d < 999999 → nI d = A := fun d x h1 h2 h3 => by
    rw [← hA]
    refine (lstN_is ⟨⟨_, (hlk.1 x d h1).2, trivial⟩, h3⟩ (fun k hk => ?_)).symm
    obtain ⟨⟨b, hb, _⟩, _⟩ := hk
    exact h2 _ k (hlk.2 b k hb).2
  have hA0 : (∀ x n', ¬ stgN (fun k x => encM m (stk kd bs m (ks k) (decM m x))) nk (encM m a) (fun x => x / 8 / m) tg (F 27) x n') → A = -1 := fun h => by
    rw [← hA]
    refine lstN_none (fun n hn => ?_)
    obtain ⟨⟨b, hb, _⟩, _⟩ := hn
    exact h _ n (hlk.2 b n hb).2
  rw [hA]
  clear hlk hA
  obtain ⟨st, hst⟩ : ∃ st : Nat → Nat → Nat, (fun k x => encM m (stk kd bs m (ks k) (decM m x))) = st := ⟨_, rfl⟩
  have hstE : ∀ k x, encM m (stk kd bs m (ks k) (decM m x)) = st k x := fun k x => congrFun (congrFun hst k) x
  rw [hst] at hA1 hA0
  simp only [hstE] at hstN
  clear hst
  have hx0 : encM m a / 8 / m = a.2.2.1 := congrArg (fun z : A4 => z.2.2.1) (decM_encM ha)
  refine MC.ofJ [some (.ref (r 100)), none, none, none, none, none, none, none, none, none, none, none, none] rfl (Nat.le_of_ble_eq_true rfl) (by decide) ?_
  refine j_re rfl rfl (h' := (mdS r dT g (nI kd) bs fg m nk a.1 a.2.1 a.2.2.1 a.2.2.2 F tk (vo V [(109, V 109), (110, V 110), (111, V 111), (112, V 112)]))) (by rw [vo_same _ (by simp)]) ?_
  refine j_aload_n dX3_listOf_0 rfl ?_
  refine j_callVi (m_stateNow ha.2.2.2) dX3_listOf_1 pmX3_stateNow q1344 q1346 qs43 (by first | rfl | assumption) rfl rfl rfl ⟨Nat.le_of_ble_eq_true rfl, Nat.le_of_ble_eq_true rfl⟩ ⟨Nat.le_of_ble_eq_true rfl, Nat.le_of_ble_eq_true rfl⟩ rfl (Nat.le_of_ble_eq_true rfl) ?_
  refine j_istore_n dX3_listOf_4 (by decide) rfl ?_
  refine j_aload_n dX3_listOf_5 rfl ?_
  refine j_iconst (v := 0) dX3_listOf_6 (by decide) ?_
  refine j_aload_n dX3_listOf_7 rfl ?_
  refine j_get 21 dX3_listOf_8 (by first | rfl | assumption) in_X3 rfl (by decide) q1120 rfl ?_
  
  refine j_callV (m_goOn (V := (vo V [(109, V 109), (110, V 110), (111, V 111), (112, V 112)])) 0 a.2.2.1 tg htg hm2 hn6 (Nat.zero_le _) ha.2.2.1) q_go.isR dX3_listOf_11 pmX3_goOn q1421 q1423 qs53 (by first | rfl | assumption) rfl rfl rfl ⟨Nat.le_of_ble_eq_true rfl, Nat.le_of_ble_eq_true rfl⟩ ⟨Nat.le_of_ble_eq_true rfl, Nat.le_of_ble_eq_true rfl⟩ rfl (Nat.le_of_ble_eq_true rfl) ?_
  rintro v9 r h9 nx ⟨rfl, rfl, rfl, had, e9, -, hhad, hgo, -⟩
  cases e9
  show J _ _ _ _ _ _ _ _ _ _ _ _ (.int _ :: _)
  refine j_istore_n dX3_listOf_14 (by decide) rfl ?_
  refine j_iconst (v := 1) dX3_listOf_15 (by decide) ?_
  refine j_istore_n dX3_listOf_16 (by decide) rfl ?_
  refine j_aload_n dX3_listOf_17 rfl ?_
  refine j_get 37 dX3_listOf_18 (by first | rfl | assumption) in_X3 rfl (by decide) q1136 rfl ?_
  refine j_iconst (v := 0) dX3_listOf_21 (by decide) ?_
  refine j_iload_n dX3_listOf_22 rfl ?_
  refine j_iast 0 0 dX3_listOf_23 (by first | rfl | assumption) rfl rfl (by decide) (by decide) ?_
  refine j_mdW (f := _) (by decide) (by decide) rfl ?_
  refine j_aload_n dX3_listOf_24 rfl ?_
  refine j_get 36 dX3_listOf_25 (by first | rfl | assumption) in_X3 rfl (by decide) q1135 rfl ?_
  refine j_iconst (v := 0) dX3_listOf_28 (by decide) ?_
  refine j_iconst (v := 0) dX3_listOf_29 (by decide) ?_
  refine j_iast 0 0 dX3_listOf_30 (by first | rfl | assumption) rfl rfl (by decide) (by decide) ?_
  refine j_mdW (f := _) (by decide) (by decide) rfl ?_
  refine j_join (tgt := 44) (fun x => (had = F 27 → x = 0) ∧ (¬ had = F 27 → x = -1)) (fun v31 hv31 => ?_) (fun kj31 => ?_)
  · skip
    generalize v31 = fo at hv31 ⊢
    obtain ⟨hfo1, hfo2⟩ := hv31
    refine j_istore dX3_listOf_44 (by decide) rfl ?_
    refine j_join (tgt := 57) (fun x => x = bI (decide (¬ had = F 27))) (fun v46 hv46 => ?_) (fun kj46 => ?_)
    · skip
      subst hv46
      have hcn1 : decide (¬ had = F 27) = true → had < F 27 := fun q => by have := of_decide_eq_true q; omega
      have hfst : ∀ q, q < had → tg q = (fun x => x / 8 / m) (encM m a) := fun q hq => (hgo q (Nat.zero_le _) hq).trans hx0.symm
      have hcn0 : decide (¬ had = F 27) = false → fo = A := fun q => by
        have he : had = F 27 := Classical.byContradiction (fun z => of_decide_eq_false q z)
        rw [hfo1 he]
        have h9 := (stgN.first (st := st) (K := nk) (x0 := encM m a) (sh := (fun x => x / 8 / m)) hfst).1
        rw [he] at h9
        exact hA1 0 _ h9 (fun _ _ _ => Nat.zero_le _) (by decide)
      have hsrc0 := srcI.first (st := st) (K := nk) (x0 := encM m a) (sh := (fun x => x / 8 / m)) hfst
      have hO0 : lbO (8 * m * m) (had * 80000) [(encM m a, 0)] := ⟨List.pairwise_singleton _ _, fun e he => by rw [List.mem_singleton.mp he]; exact ⟨hea, Nat.zero_le _⟩⟩
      have hsr0 : srR [(encM m a, 0)] (upd (V 112) 0 (nI (encM m a))) (upd (V 111) 0 0) := fun j e hj => by
        have hz := (List.getElem?_eq_some_iff.mp hj).1
        simp at hz
        rw [hz] at hj ⊢
        simp at hj
        rw [← hj]
        exact ⟨pk_us, pk_us⟩
      generalize decide (¬ had = F 27) = cn at hcn1 hcn0 ⊢
      refine j_istore dX3_listOf_57 (by decide) rfl ?_
      refine j_less (L' := [some (.ref (r 100)), some (.int (nI (encM m a))), some (.int (nI had)), some (.int (nI [(encM m a, 0)].length)), some (.int (fo)), some (.int (bI cn)), none, none, none, none, none, none, none]) ⟨Or.inr rfl, Or.inr rfl, Or.inr rfl, Or.inr rfl, Or.inr rfl, Or.inr rfl, Or.inl rfl, Or.inl rfl, Or.inl rfl, Or.inl rfl, Or.inl rfl, Or.inl rfl, Or.inl rfl, trivial⟩ ?_
      refine j_lp9 (fun (had : Nat) (fo : Int32) (cn : Bool) (SR : List (Nat × Nat)) (b : A4) (fr ln by' mo : Nat → Int32) => (mdS r dT g (nI kd) bs fg m nk b.1 b.2.1 b.2.2.1 b.2.2.2 F tk (vo V [(109, fr), (110, ln), (111, by'), (112, mo)]))) (fun had fo cn SR _ _ _ _ _ => [some (.ref (r 100)), some (.int (nI (encM m a))), some (.int (nI had)), some (.int (nI SR.length)), some (.int (fo)), some (.int (bI cn)), none, none, none, none, none, none, none]) (fun had fo cn SR b fr ln by' mo => okA m b ∧ had ≤ F 27 ∧ SR.length ≤ 8 * m * m ∧ lbO (8 * m * m) (had * 80000) SR ∧ srR SR mo by' ∧ srcI st nk (encM m a) (fun x => x / 8 / m) tg had SR ∧ (cn = true → had < F 27) ∧ (cn = false → fo = A)) (fun had _ _ _ _ _ _ _ _ => F 27 - had) ?_ had fo cn [(encM m a, 0)] a _ _ _ _ ⟨ha, hhad, hN1, hO0, hsr0, hsrc0, hcn1, hcn0⟩
      clear hhad hO0 hsr0 hsrc0 hcn1 hcn0 hN1
      clear hfo1 hfo2
      intro had fo cn SR b fr ln by' mo ⟨hb, hhad, hSN, hO, hsr, hsrc, hcn1, hcn0⟩ ih
      refine j_iload dX3_listOf_59 rfl ?_
      refine j_if_eq (tgt := 436) dX3_listOf_61 (by decide) (fun c61 => ?_) (fun c61 => ?_)
      · skip
        have hans := hcn0 (bI_0.mp c61)
        refine j_aload_n dX3_listOf_436 rfl ?_
        refine j_iload_n dX3_listOf_437 rfl ?_
        refine j_callVv (m_setState hm hm2 (encM m a) (by omega)) dX3_listOf_438 pmX3_setState q1360 q1362 qs47 (by first | rfl | assumption) rfl rfl rfl ⟨Nat.le_of_ble_eq_true rfl, Nat.le_of_ble_eq_true rfl⟩ ⟨Nat.le_of_ble_eq_true rfl, Nat.le_of_ble_eq_true rfl⟩ rfl (Nat.le_of_ble_eq_true rfl) ?_
        refine j_iload dX3_listOf_441 rfl ?_
        refine j_iret dX3_listOf_443 rfl rfl (Nat.le_refl _) (Nat.le_refl _) ?_
        rw [decM_encM ha]
        exact jm_i hans (vo_ms (by intro q hq; simp at hq; rcases hq with rfl | rfl | rfl | rfl <;> exact ⟨Nat.le_of_ble_eq_true rfl, Nat.le_of_ble_eq_true rfl⟩))
      · skip
        have hhl := hcn1 (bI_n.mp c61)
        refine j_iconst (v := 0) dX3_listOf_64 (by decide) ?_
        refine j_istore dX3_listOf_65 (by decide) rfl ?_
        refine j_less (L' := [some (.ref (r 100)), some (.int (nI (encM m a))), some (.int (nI had)), some (.int (nI SR.length)), some (.int (fo)), some (.int (bI cn)), some (.int (nI 0)), none, none, none, none, none, none]) ⟨Or.inr rfl, Or.inr rfl, Or.inr rfl, Or.inr rfl, Or.inr rfl, Or.inr rfl, Or.inr rfl, Or.inl rfl, Or.inl rfl, Or.inl rfl, Or.inl rfl, Or.inl rfl, Or.inl rfl, trivial⟩ ?_
        refine j_lp2 (fun (k : Nat) (fr : Nat → Int32) => (mdS r dT g (nI kd) bs fg m nk b.1 b.2.1 b.2.2.1 b.2.2.2 F tk (vo V [(109, fr), (110, ln), (111, by'), (112, mo)]))) (fun k _ => [some (.ref (r 100)), some (.int (nI (encM m a))), some (.int (nI had)), some (.int (nI SR.length)), some (.int (fo)), some (.int (bI cn)), some (.int (nI k)), none, none, none, none, none, none]) (fun k fr => k ≤ 8 * m * m ∧ ∀ q, q < k → fr q = -1) (fun k _ => 8 * m * m - k) ?_ 0 fr ⟨Nat.zero_le _, fun q hq => absurd hq (Nat.not_lt_zero _)⟩
        intro k fr ⟨hk, hz⟩ ih9
        refine j_iload dX3_listOf_67 rfl ?_
        refine j_aload_n dX3_listOf_69 rfl ?_
        refine j_callVi m_states dX3_listOf_70 pmX3_states q1348 q1350 qs44 (by first | rfl | assumption) rfl rfl rfl ⟨Nat.le_of_ble_eq_true rfl, Nat.le_of_ble_eq_true rfl⟩ ⟨Nat.le_of_ble_eq_true rfl, Nat.le_of_ble_eq_true rfl⟩ rfl (Nat.le_of_ble_eq_true rfl) ?_
        refine j_icmp_ge (tgt := 90) dX3_listOf_73 (by decide) (fun c73 => ?_) (fun c73 => ?_)
        · skip
          have hk1 : k = 8 * m * m := by
            have := (nI_leI (by omega) (by omega)).mp c73
            omega
          have hz9 : ∀ s, s < 8 * m * m → fr s = -1 := fun s hs => hz s (by omega)
          clear hz hk1 hk
          refine j_iconst (v := 0) dX3_listOf_90 (by decide) ?_
          refine j_istore dX3_listOf_91 (by decide) rfl ?_
          refine j_iconst (v := 0) dX3_listOf_93 (by decide) ?_
          refine j_istore dX3_listOf_94 (by decide) rfl ?_
          refine j_iconst (v := 0) dX3_listOf_96 (by decide) ?_
          refine j_istore dX3_listOf_97 (by decide) rfl ?_
          refine j_iconst (v := 0) dX3_listOf_99 (by decide) ?_
          refine j_istore dX3_listOf_100 (by decide) rfl ?_
          refine j_less (L' := [some (.ref (r 100)), some (.int (nI (encM m a))), some (.int (nI had)), some (.int (nI SR.length)), some (.int (fo)), some (.int (bI cn)), some (.int (nI (([] ++ [] : List Nat).length))), some (.int (nI 0)), some (.int (nI (([] : List Nat).length))), some (.int (0)), none, none, none]) ⟨Or.inr rfl, Or.inr rfl, Or.inr rfl, Or.inr rfl, Or.inr rfl, Or.inr rfl, Or.inr rfl, Or.inr rfl, Or.inr rfl, Or.inr rfl, Or.inl rfl, Or.inl rfl, Or.inl rfl, trivial⟩ ?_
          refine j_lp7 (fun (P Q : List Nat) (t : Nat) (f : Nat → Nat) (b : A4) (fr ln : Nat → Int32) => (mdS r dT g (nI kd) bs fg m nk b.1 b.2.1 b.2.2.1 b.2.2.2 F tk (vo V [(109, fr), (110, ln), (111, by'), (112, mo)]))) (fun P Q t _ _ _ _ => [some (.ref (r 100)), some (.int (nI (encM m a))), some (.int (nI had)), some (.int (nI SR.length)), some (.int (fo)), some (.int (bI cn)), some (.int (nI ((P ++ Q).length))), some (.int (nI t)), some (.int (nI (P.length))), some (.int (0)), none, none, none]) (fun P Q t f b fr ln => okA m b ∧ t ≤ SR.length ∧ lbI st nk (8 * m * m) (had * 80000) SR (fun _ _ => False) f P Q t ∧ lnR (P ++ Q) ln ∧ frR (8 * m * m) f (P ++ Q) fr) (fun P _ t _ _ _ _ => (8 * m * m - P.length) + (SR.length - t)) ?_ [] [] 0 (fun _ => 0) b fr ln ⟨hb, Nat.zero_le _, lbI.start, fun j x hj => by simp at hj, fun s hs => ⟨fun q => absurd q List.not_mem_nil, fun _ => hz9 s hs⟩⟩
          clear hz9 ih9 hb
          intro P Q t f b fr ln ⟨hb, ht, hL, hln, hfr⟩ ih2
          have hlen := hL.len
          have hle : (P ++ Q).length = P.length + Q.length := List.length_append
          refine j_iload dX3_listOf_102 rfl ?_
          refine j_iload dX3_listOf_104 rfl ?_
          refine j_icmp_lt (tgt := 115) dX3_listOf_106 (by decide) (fun c106 => ?_) (fun c106 => ?_)
          · skip
            have h106 : P.length < (P ++ Q).length := (nI_ltI (by omega) (by omega)).mp c106
            obtain ⟨s, Q', hQ⟩ : ∃ s Q', Q = s :: Q' := by
              cases Q with
              | nil => rw [hle] at h106; exact absurd h106 (Nat.lt_irrefl _)
              | cons s Q' => exact ⟨s, Q', rfl⟩
            have hsm : s ∈ P ++ Q := by rw [hQ]; exact List.mem_append_right _ List.mem_cons_self
            have hsN := hL.1.2 s hsm
            refine j_iload dX3_listOf_115 rfl ?_
            refine j_iload_n dX3_listOf_117 rfl ?_
            refine j_icmp_ge (tgt := 203) dX3_listOf_118 (by decide) (fun c118 => ?_) (fun c118 => ?_)
            · skip
              have hte : t = SR.length := by
                have := (nI_leI (by omega) (by omega)).mp c118
                omega
              have hs1 : ∀ j e, t ≤ j → SR[j]? = some e → f s + 1 ≤ e.2 := fun j e hj he => by
                have := (List.getElem?_eq_some_iff.mp he).1
                omega
              have hle2 : ((P ++ [s]) ++ Q').length = (P ++ Q).length := by rw [hQ, List.append_assoc]; rfl
              have hap : (P ++ [s]) ++ Q' = P ++ Q := by rw [hQ, List.append_assoc]; rfl
              have hpop := (show lbI st nk (8 * m * m) (had * 80000) SR (fun _ _ => False) f P (s :: Q') t from hQ ▸ hL).pop hs1
              have hln2 : lnR ((P ++ [s]) ++ Q') ln := by rw [hap]; exact hln
              have hfr2 : frR (8 * m * m) f ((P ++ [s]) ++ Q') fr := by rw [hap]; exact hfr
              have hPn : P.length + 1 ≤ 8 * m * m := by rw [hQ, List.length_cons] at hlen; omega
              refine j_aload_n dX3_listOf_203 rfl ?_
              refine j_get 35 dX3_listOf_204 (by first | rfl | assumption) in_X3 rfl (by decide) q1134 rfl ?_
              refine j_iload dX3_listOf_207 rfl ?_
              refine j_iald 0 P.length dX3_listOf_209 (by first | rfl | assumption) rfl rfl (by show P.length < 80000; omega) (by decide) ?_
              refine j_eqi (show _ = nI s from hln P.length s (by rw [hQ, List.getElem?_append_right (Nat.le_refl _), Nat.sub_self]; rfl)) ?_
              refine j_istore dX3_listOf_210 (by decide) rfl ?_
              refine j_iinc dX3_listOf_212 rfl (by decide) rfl ?_
              refine j_iconst (v := 0) dX3_listOf_215 (by decide) ?_
              refine j_istore dX3_listOf_216 (by decide) rfl ?_
              refine j_less (L' := [some (.ref (r 100)), some (.int (nI (encM m a))), some (.int (nI had)), some (.int (nI SR.length)), some (.int (fo)), some (.int (bI cn)), some (.int (nI (((P ++ [s]) ++ Q').length))), some (.int (nI t)), some (.int (nI ((P ++ [s]).length))), some (.int (0)), some (.int (nI s)), some (.int (nI 0)), none]) ⟨Or.inr rfl, Or.inr rfl, Or.inr rfl, Or.inr rfl, Or.inr rfl, Or.inr rfl, Or.inr (by rw [hle2]), Or.inr rfl, Or.inr (by rw [List.length_append, List.length_singleton, ← nI_inc]), Or.inr rfl, Or.inr rfl, Or.inr rfl, Or.inl rfl, trivial⟩ ?_
              refine j_lp6 (fun (k : Nat) (Q : List Nat) (f : Nat → Nat) (b : A4) (fr ln : Nat → Int32) => (mdS r dT g (nI kd) bs fg m nk b.1 b.2.1 b.2.2.1 b.2.2.2 F tk (vo V [(109, fr), (110, ln), (111, by'), (112, mo)]))) (fun k Q _ _ _ _ => [some (.ref (r 100)), some (.int (nI (encM m a))), some (.int (nI had)), some (.int (nI SR.length)), some (.int (fo)), some (.int (bI cn)), some (.int (nI (((P ++ [s]) ++ Q).length))), some (.int (nI t)), some (.int (nI ((P ++ [s]).length))), some (.int (0)), some (.int (nI s)), some (.int (nI k)), none]) (fun k Q f b fr ln => k ≤ nk ∧ okA m b ∧ lbI st nk (8 * m * m) (had * 80000) SR (spE s k) f (P ++ [s]) Q t ∧ lbS SR f (P ++ [s]) Q t s ∧ lnR ((P ++ [s]) ++ Q) ln ∧ frR (8 * m * m) f ((P ++ [s]) ++ Q) fr) (fun k _ _ _ _ _ => nk - k) ?_ 0 Q' f b fr ln ⟨Nat.zero_le _, hb, hpop.1, hpop.2, hln2, hfr2⟩
              clear hb hln hfr hln2 hfr2 hL hpop
              intro k Q f b fr ln ⟨hk, hb, hL, hS, hln, hfr⟩ ih3
              have hlen3 := hL.len
              have hle3 : ((P ++ [s]) ++ Q).length = (P ++ [s]).length + Q.length := List.length_append
              refine j_iload dX3_listOf_218 rfl ?_
              refine j_aload_n dX3_listOf_220 rfl ?_
              refine j_get 4 dX3_listOf_221 (by first | rfl | assumption) in_X3 rfl (by decide) q1103 rfl ?_
              refine j_icmp_ge (tgt := 282) dX3_listOf_224 (by decide) (fun c224 => ?_) (fun c224 => ?_)
              · skip
                have hkk : k = nk := by
                  have := (nI_leI (by omega) (by omega)).mp c224
                  omega
                refine j_goto (tgt := 102) dX3_listOf_282 (by decide) ?_
                refine j_less (L' := [some (.ref (r 100)), some (.int (nI (encM m a))), some (.int (nI had)), some (.int (nI SR.length)), some (.int (fo)), some (.int (bI cn)), some (.int (nI (((P ++ [s]) ++ Q).length))), some (.int (nI t)), some (.int (nI ((P ++ [s]).length))), some (.int (0)), none, none, none]) ⟨Or.inr rfl, Or.inr rfl, Or.inr rfl, Or.inr rfl, Or.inr rfl, Or.inr rfl, Or.inr rfl, Or.inr rfl, Or.inr rfl, Or.inr rfl, Or.inl rfl, Or.inl rfl, Or.inl rfl, trivial⟩ ?_
                rw [hkk] at hL
                exact ih2 (P ++ [s]) Q t f b fr ln ⟨hb, ht, hL.fin, hln, hfr⟩ (by rw [List.length_append, List.length_singleton]; omega)
              · skip
                have hkn : k < nk := Nat.lt_of_not_le (fun q => c224 (nI_le q (by omega)))
                have hto := hstN s k hsN hkn
                have hox : okA m (stk kd bs m (ks k) (decM m s)) := stk_ok hD (hks k hkn).2 (decM_ok hm hsN)
                have hsm3 : s ∈ (P ++ [s]) ++ Q := List.mem_append_left _ hS.1
                have hs8 : f s ≤ had * 80000 + 8 * m * m := by
                  obtain ⟨i9, h91, h92⟩ := hS.2.2.2.2
                  have h9 := hL.2.2.2.2.2.2.2 i9 s (by rw [List.getElem?_append_left h91]; exact h92)
                  omega
                refine j_aload_n dX3_listOf_227 rfl ?_
                refine j_iload dX3_listOf_228 rfl ?_
                refine j_iload dX3_listOf_230 rfl ?_
                refine j_callVi (m_behind (V := (vo V [(109, fr), (110, ln), (111, by'), (112, mo)])) hD k (by omega) (ks k) (hks k hkn).2 (hks k hkn).1.w s hsN) dX3_listOf_232 pmX3_behind q1356 q1358 qs46 (by first | rfl | assumption) rfl rfl rfl ⟨Nat.le_of_ble_eq_true rfl, Nat.le_of_ble_eq_true rfl⟩ ⟨Nat.le_of_ble_eq_true rfl, Nat.le_of_ble_eq_true rfl⟩ rfl (Nat.le_of_ble_eq_true rfl) ?_
                rw [hstE]
                generalize stk kd bs m (ks k) (decM m s) = b9 at hox ⊢
                refine j_istore dX3_listOf_235 (by decide) rfl ?_
                refine j_aload_n dX3_listOf_237 rfl ?_
                refine j_get 34 dX3_listOf_238 (by first | rfl | assumption) in_X3 rfl (by decide) q1133 rfl ?_
                refine j_iload dX3_listOf_241 rfl ?_
                refine j_iald 0 (st k s) dX3_listOf_243 (by first | rfl | assumption) rfl rfl (by show (st k s) < 80000; omega) (by decide) ?_
                refine j_iconst (v := (-1)) dX3_listOf_244 (by decide) ?_
                refine j_icmp_ne (tgt := 276) dX3_listOf_245 (by decide) (fun c245 => ?_) (fun c245 => ?_)
                · skip
                  have htm : st k s ∈ (P ++ [s]) ++ Q := Classical.byContradiction (fun q => c245 ((hfr _ hto).2 q))
                  refine j_iinc dX3_listOf_276 rfl (by decide) rfl ?_
                  refine j_goto (tgt := 218) dX3_listOf_279 (by decide) ?_
                  refine j_less (L' := [some (.ref (r 100)), some (.int (nI (encM m a))), some (.int (nI had)), some (.int (nI SR.length)), some (.int (fo)), some (.int (bI cn)), some (.int (nI (((P ++ [s]) ++ Q).length))), some (.int (nI t)), some (.int (nI ((P ++ [s]).length))), some (.int (0)), some (.int (nI s)), some (.int (nI (k + 1))), none]) ⟨Or.inr rfl, Or.inr rfl, Or.inr rfl, Or.inr rfl, Or.inr rfl, Or.inr rfl, Or.inr rfl, Or.inr rfl, Or.inr rfl, Or.inr rfl, Or.inr rfl, Or.inr (by rw [← nI_inc]), Or.inl rfl, trivial⟩ ?_
                  exact ih3 (k + 1) Q f _ fr ln ⟨by omega, hox, hL.skip hS htm, hS, hln, hfr⟩ (by omega)
                · skip
                  have htm : st k s ∉ (P ++ [s]) ++ Q := fun q => by
                    have h9 := (hfr _ hto).1 q
                    have h8 := hS.2.1 _ q
                    exact nI_m1 (by omega) (h9.symm.trans c245)
                  have hl1 := hL.len1 hto htm
                  have hpu := hL.push hS hkn hto htm
                  refine j_aload_n dX3_listOf_248 rfl ?_
                  refine j_get 34 dX3_listOf_249 (by first | rfl | assumption) in_X3 rfl (by decide) q1133 rfl ?_
                  refine j_iload dX3_listOf_252 rfl ?_
                  refine j_aload_n dX3_listOf_254 rfl ?_
                  refine j_get 34 dX3_listOf_255 (by first | rfl | assumption) in_X3 rfl (by decide) q1133 rfl ?_
                  refine j_iload dX3_listOf_258 rfl ?_
                  refine j_iald 0 s dX3_listOf_260 (by first | rfl | assumption) rfl rfl (by show s < 80000; omega) (by decide) ?_
                  refine j_eqi (show _ = nI (f s) from (hfr s hsN).1 hsm3) ?_
                  refine j_iconst (v := 1) dX3_listOf_261 (by decide) ?_
                  refine j_iadd dX3_listOf_262 ?_
                  refine j_eqi (show _ = nI (f s + 1) from nI_1 _) ?_
                  refine j_iast 0 (st k s) dX3_listOf_263 (by first | rfl | assumption) rfl rfl (by show (st k s) < 80000; omega) (by decide) ?_
                  refine j_mdW (f := _) (by decide) (by decide) rfl ?_
                  refine j_aload_n dX3_listOf_264 rfl ?_
                  refine j_get 35 dX3_listOf_265 (by first | rfl | assumption) in_X3 rfl (by decide) q1134 rfl ?_
                  refine j_iload dX3_listOf_268 rfl ?_
                  refine j_iload dX3_listOf_270 rfl ?_
                  refine j_iast 0 ((P ++ [s]) ++ Q).length dX3_listOf_272 (by first | rfl | assumption) rfl rfl (by show ((P ++ [s]) ++ Q).length < 80000; omega) (by decide) ?_
                  refine j_mdW (f := _) (by decide) (by decide) rfl ?_
                  refine j_iinc dX3_listOf_273 rfl (by decide) rfl ?_
                  refine j_iinc dX3_listOf_276 rfl (by decide) rfl ?_
                  refine j_goto (tgt := 218) dX3_listOf_279 (by decide) ?_
                  have hap3 : (P ++ [s]) ++ (Q ++ [st k s]) = ((P ++ [s]) ++ Q) ++ [st k s] := (List.append_assoc _ _ _).symm
                  refine j_less (L' := [some (.ref (r 100)), some (.int (nI (encM m a))), some (.int (nI had)), some (.int (nI SR.length)), some (.int (fo)), some (.int (bI cn)), some (.int (nI (((P ++ [s]) ++ (Q ++ [st k s])).length))), some (.int (nI t)), some (.int (nI ((P ++ [s]).length))), some (.int (0)), some (.int (nI s)), some (.int (nI (k + 1))), none]) ⟨Or.inr rfl, Or.inr rfl, Or.inr rfl, Or.inr rfl, Or.inr rfl, Or.inr rfl, Or.inr (by rw [hap3, List.length_append, List.length_singleton, ← nI_inc]), Or.inr rfl, Or.inr rfl, Or.inr rfl, Or.inr rfl, Or.inr (by rw [← nI_inc]), Or.inl rfl, trivial⟩ ?_
                  exact ih3 (k + 1) (Q ++ [st k s]) _ _ _ _ ⟨by omega, hox, hpu.1, hpu.2, by rw [hap3]; exact hln.push _, hfr.up _ _ (fun x => by rw [hap3, List.mem_append, List.mem_singleton]; exact ⟨fun q => q.elim Or.inr Or.inl, fun q => q.elim Or.inr Or.inl⟩)⟩ (by omega)
            · skip
              have htl : t < SR.length := Nat.lt_of_not_le (fun q => c118 (nI_le q (by omega)))
              obtain ⟨e, he⟩ : ∃ e, SR[t]? = some e := ⟨_, List.getElem?_eq_getElem htl⟩
              have hee := hO.2 e (List.mem_of_getElem? he)
              refine j_iload dX3_listOf_121 rfl ?_
              refine j_iload dX3_listOf_123 rfl ?_
              refine j_icmp_eq (tgt := 150) dX3_listOf_125 (by decide) (fun c125 => absurd c125 (fun q => absurd ((nI_eq (by omega) (by omega)).mp q) (by omega))) (fun c125 => ?_)
              refine j_aload_n dX3_listOf_128 rfl ?_
              refine j_get 36 dX3_listOf_129 (by first | rfl | assumption) in_X3 rfl (by decide) q1135 rfl ?_
              refine j_iload dX3_listOf_132 rfl ?_
              refine j_iald 0 t dX3_listOf_134 (by first | rfl | assumption) rfl rfl (by show t < 80000; omega) (by decide) ?_
              refine j_eqi (show _ = nI e.2 from (hsr t e he).2) ?_
              refine j_aload_n dX3_listOf_135 rfl ?_
              refine j_get 34 dX3_listOf_136 (by first | rfl | assumption) in_X3 rfl (by decide) q1133 rfl ?_
              refine j_aload_n dX3_listOf_139 rfl ?_
              refine j_get 35 dX3_listOf_140 (by first | rfl | assumption) in_X3 rfl (by decide) q1134 rfl ?_
              refine j_iload dX3_listOf_143 rfl ?_
              refine j_iald 0 P.length dX3_listOf_145 (by first | rfl | assumption) rfl rfl (by show P.length < 80000; omega) (by decide) ?_
              refine j_eqi (show _ = nI s from hln P.length s (by rw [hQ, List.getElem?_append_right (Nat.le_refl _), Nat.sub_self]; rfl)) ?_
              refine j_iald 0 s dX3_listOf_146 (by first | rfl | assumption) rfl rfl (by show s < 80000; omega) (by decide) ?_
              refine j_eqi (show _ = nI (f s) from (hfr s hsN).1 hsm) ?_
              have hs8 : f s ≤ had * 80000 + 8 * m * m := by
                have h9 := hL.2.2.2.2.2.2.2 P.length s (by rw [hQ, List.getElem?_append_right (Nat.le_refl _), Nat.sub_self]; rfl)
                omega
              refine j_icmp_gt (tgt := 203) dX3_listOf_147 (by decide) (fun c147 => ?_) (fun c147 => ?_)
              · skip
                have h147 : f s < e.2 := (nI_ltI (by omega) (by omega)).mp c147
                have hs1 : ∀ j e, t ≤ j → SR[j]? = some e → f s + 1 ≤ e.2 := fun j e9 hj he9 => by
                  have := hO.mono hj he he9
                  omega
                have hle2 : ((P ++ [s]) ++ Q').length = (P ++ Q).length := by rw [hQ, List.append_assoc]; rfl
                have hap : (P ++ [s]) ++ Q' = P ++ Q := by rw [hQ, List.append_assoc]; rfl
                have hpop := (show lbI st nk (8 * m * m) (had * 80000) SR (fun _ _ => False) f P (s :: Q') t from hQ ▸ hL).pop hs1
                have hln2 : lnR ((P ++ [s]) ++ Q') ln := by rw [hap]; exact hln
                have hfr2 : frR (8 * m * m) f ((P ++ [s]) ++ Q') fr := by rw [hap]; exact hfr
                have hPn : P.length + 1 ≤ 8 * m * m := by rw [hQ, List.length_cons] at hlen; omega
                refine j_aload_n dX3_listOf_203 rfl ?_
                refine j_get 35 dX3_listOf_204 (by first | rfl | assumption) in_X3 rfl (by decide) q1134 rfl ?_
                refine j_iload dX3_listOf_207 rfl ?_
                refine j_iald 0 P.length dX3_listOf_209 (by first | rfl | assumption) rfl rfl (by show P.length < 80000; omega) (by decide) ?_
                refine j_eqi (show _ = nI s from hln P.length s (by rw [hQ, List.getElem?_append_right (Nat.le_refl _), Nat.sub_self]; rfl)) ?_
                refine j_istore dX3_listOf_210 (by decide) rfl ?_
                refine j_iinc dX3_listOf_212 rfl (by decide) rfl ?_
                refine j_iconst (v := 0) dX3_listOf_215 (by decide) ?_
                refine j_istore dX3_listOf_216 (by decide) rfl ?_
                refine j_less (L' := [some (.ref (r 100)), some (.int (nI (encM m a))), some (.int (nI had)), some (.int (nI SR.length)), some (.int (fo)), some (.int (bI cn)), some (.int (nI (((P ++ [s]) ++ Q').length))), some (.int (nI t)), some (.int (nI ((P ++ [s]).length))), some (.int (0)), some (.int (nI s)), some (.int (nI 0)), none]) ⟨Or.inr rfl, Or.inr rfl, Or.inr rfl, Or.inr rfl, Or.inr rfl, Or.inr rfl, Or.inr (by rw [hle2]), Or.inr rfl, Or.inr (by rw [List.length_append, List.length_singleton, ← nI_inc]), Or.inr rfl, Or.inr rfl, Or.inr rfl, Or.inl rfl, trivial⟩ ?_
                refine j_lp6 (fun (k : Nat) (Q : List Nat) (f : Nat → Nat) (b : A4) (fr ln : Nat → Int32) => (mdS r dT g (nI kd) bs fg m nk b.1 b.2.1 b.2.2.1 b.2.2.2 F tk (vo V [(109, fr), (110, ln), (111, by'), (112, mo)]))) (fun k Q _ _ _ _ => [some (.ref (r 100)), some (.int (nI (encM m a))), some (.int (nI had)), some (.int (nI SR.length)), some (.int (fo)), some (.int (bI cn)), some (.int (nI (((P ++ [s]) ++ Q).length))), some (.int (nI t)), some (.int (nI ((P ++ [s]).length))), some (.int (0)), some (.int (nI s)), some (.int (nI k)), none]) (fun k Q f b fr ln => k ≤ nk ∧ okA m b ∧ lbI st nk (8 * m * m) (had * 80000) SR (spE s k) f (P ++ [s]) Q t ∧ lbS SR f (P ++ [s]) Q t s ∧ lnR ((P ++ [s]) ++ Q) ln ∧ frR (8 * m * m) f ((P ++ [s]) ++ Q) fr) (fun k _ _ _ _ _ => nk - k) ?_ 0 Q' f b fr ln ⟨Nat.zero_le _, hb, hpop.1, hpop.2, hln2, hfr2⟩
                clear hb hln hfr hln2 hfr2 hL hpop
                intro k Q f b fr ln ⟨hk, hb, hL, hS, hln, hfr⟩ ih3
                have hlen3 := hL.len
                have hle3 : ((P ++ [s]) ++ Q).length = (P ++ [s]).length + Q.length := List.length_append
                refine j_iload dX3_listOf_218 rfl ?_
                refine j_aload_n dX3_listOf_220 rfl ?_
                refine j_get 4 dX3_listOf_221 (by first | rfl | assumption) in_X3 rfl (by decide) q1103 rfl ?_
                refine j_icmp_ge (tgt := 282) dX3_listOf_224 (by decide) (fun c224 => ?_) (fun c224 => ?_)
                · skip
                  have hkk : k = nk := by
                    have := (nI_leI (by omega) (by omega)).mp c224
                    omega
                  refine j_goto (tgt := 102) dX3_listOf_282 (by decide) ?_
                  refine j_less (L' := [some (.ref (r 100)), some (.int (nI (encM m a))), some (.int (nI had)), some (.int (nI SR.length)), some (.int (fo)), some (.int (bI cn)), some (.int (nI (((P ++ [s]) ++ Q).length))), some (.int (nI t)), some (.int (nI ((P ++ [s]).length))), some (.int (0)), none, none, none]) ⟨Or.inr rfl, Or.inr rfl, Or.inr rfl, Or.inr rfl, Or.inr rfl, Or.inr rfl, Or.inr rfl, Or.inr rfl, Or.inr rfl, Or.inr rfl, Or.inl rfl, Or.inl rfl, Or.inl rfl, trivial⟩ ?_
                  rw [hkk] at hL
                  exact ih2 (P ++ [s]) Q t f b fr ln ⟨hb, ht, hL.fin, hln, hfr⟩ (by rw [List.length_append, List.length_singleton]; omega)
                · skip
                  have hkn : k < nk := Nat.lt_of_not_le (fun q => c224 (nI_le q (by omega)))
                  have hto := hstN s k hsN hkn
                  have hox : okA m (stk kd bs m (ks k) (decM m s)) := stk_ok hD (hks k hkn).2 (decM_ok hm hsN)
                  have hsm3 : s ∈ (P ++ [s]) ++ Q := List.mem_append_left _ hS.1
                  have hs8 : f s ≤ had * 80000 + 8 * m * m := by
                    obtain ⟨i9, h91, h92⟩ := hS.2.2.2.2
                    have h9 := hL.2.2.2.2.2.2.2 i9 s (by rw [List.getElem?_append_left h91]; exact h92)
                    omega
                  refine j_aload_n dX3_listOf_227 rfl ?_
                  refine j_iload dX3_listOf_228 rfl ?_
                  refine j_iload dX3_listOf_230 rfl ?_
                  refine j_callVi (m_behind (V := (vo V [(109, fr), (110, ln), (111, by'), (112, mo)])) hD k (by omega) (ks k) (hks k hkn).2 (hks k hkn).1.w s hsN) dX3_listOf_232 pmX3_behind q1356 q1358 qs46 (by first | rfl | assumption) rfl rfl rfl ⟨Nat.le_of_ble_eq_true rfl, Nat.le_of_ble_eq_true rfl⟩ ⟨Nat.le_of_ble_eq_true rfl, Nat.le_of_ble_eq_true rfl⟩ rfl (Nat.le_of_ble_eq_true rfl) ?_
                  rw [hstE]
                  generalize stk kd bs m (ks k) (decM m s) = b9 at hox ⊢
                  refine j_istore dX3_listOf_235 (by decide) rfl ?_
                  refine j_aload_n dX3_listOf_237 rfl ?_
                  refine j_get 34 dX3_listOf_238 (by first | rfl | assumption) in_X3 rfl (by decide) q1133 rfl ?_
                  refine j_iload dX3_listOf_241 rfl ?_
                  refine j_iald 0 (st k s) dX3_listOf_243 (by first | rfl | assumption) rfl rfl (by show (st k s) < 80000; omega) (by decide) ?_
                  refine j_iconst (v := (-1)) dX3_listOf_244 (by decide) ?_
                  refine j_icmp_ne (tgt := 276) dX3_listOf_245 (by decide) (fun c245 => ?_) (fun c245 => ?_)
                  · skip
                    have htm : st k s ∈ (P ++ [s]) ++ Q := Classical.byContradiction (fun q => c245 ((hfr _ hto).2 q))
                    refine j_iinc dX3_listOf_276 rfl (by decide) rfl ?_
                    refine j_goto (tgt := 218) dX3_listOf_279 (by decide) ?_
                    refine j_less (L' := [some (.ref (r 100)), some (.int (nI (encM m a))), some (.int (nI had)), some (.int (nI SR.length)), some (.int (fo)), some (.int (bI cn)), some (.int (nI (((P ++ [s]) ++ Q).length))), some (.int (nI t)), some (.int (nI ((P ++ [s]).length))), some (.int (0)), some (.int (nI s)), some (.int (nI (k + 1))), none]) ⟨Or.inr rfl, Or.inr rfl, Or.inr rfl, Or.inr rfl, Or.inr rfl, Or.inr rfl, Or.inr rfl, Or.inr rfl, Or.inr rfl, Or.inr rfl, Or.inr rfl, Or.inr (by rw [← nI_inc]), Or.inl rfl, trivial⟩ ?_
                    exact ih3 (k + 1) Q f _ fr ln ⟨by omega, hox, hL.skip hS htm, hS, hln, hfr⟩ (by omega)
                  · skip
                    have htm : st k s ∉ (P ++ [s]) ++ Q := fun q => by
                      have h9 := (hfr _ hto).1 q
                      have h8 := hS.2.1 _ q
                      exact nI_m1 (by omega) (h9.symm.trans c245)
                    have hl1 := hL.len1 hto htm
                    have hpu := hL.push hS hkn hto htm
                    refine j_aload_n dX3_listOf_248 rfl ?_
                    refine j_get 34 dX3_listOf_249 (by first | rfl | assumption) in_X3 rfl (by decide) q1133 rfl ?_
                    refine j_iload dX3_listOf_252 rfl ?_
                    refine j_aload_n dX3_listOf_254 rfl ?_
                    refine j_get 34 dX3_listOf_255 (by first | rfl | assumption) in_X3 rfl (by decide) q1133 rfl ?_
                    refine j_iload dX3_listOf_258 rfl ?_
                    refine j_iald 0 s dX3_listOf_260 (by first | rfl | assumption) rfl rfl (by show s < 80000; omega) (by decide) ?_
                    refine j_eqi (show _ = nI (f s) from (hfr s hsN).1 hsm3) ?_
                    refine j_iconst (v := 1) dX3_listOf_261 (by decide) ?_
                    refine j_iadd dX3_listOf_262 ?_
                    refine j_eqi (show _ = nI (f s + 1) from nI_1 _) ?_
                    refine j_iast 0 (st k s) dX3_listOf_263 (by first | rfl | assumption) rfl rfl (by show (st k s) < 80000; omega) (by decide) ?_
                    refine j_mdW (f := _) (by decide) (by decide) rfl ?_
                    refine j_aload_n dX3_listOf_264 rfl ?_
                    refine j_get 35 dX3_listOf_265 (by first | rfl | assumption) in_X3 rfl (by decide) q1134 rfl ?_
                    refine j_iload dX3_listOf_268 rfl ?_
                    refine j_iload dX3_listOf_270 rfl ?_
                    refine j_iast 0 ((P ++ [s]) ++ Q).length dX3_listOf_272 (by first | rfl | assumption) rfl rfl (by show ((P ++ [s]) ++ Q).length < 80000; omega) (by decide) ?_
                    refine j_mdW (f := _) (by decide) (by decide) rfl ?_
                    refine j_iinc dX3_listOf_273 rfl (by decide) rfl ?_
                    refine j_iinc dX3_listOf_276 rfl (by decide) rfl ?_
                    refine j_goto (tgt := 218) dX3_listOf_279 (by decide) ?_
                    have hap3 : (P ++ [s]) ++ (Q ++ [st k s]) = ((P ++ [s]) ++ Q) ++ [st k s] := (List.append_assoc _ _ _).symm
                    refine j_less (L' := [some (.ref (r 100)), some (.int (nI (encM m a))), some (.int (nI had)), some (.int (nI SR.length)), some (.int (fo)), some (.int (bI cn)), some (.int (nI (((P ++ [s]) ++ (Q ++ [st k s])).length))), some (.int (nI t)), some (.int (nI ((P ++ [s]).length))), some (.int (0)), some (.int (nI s)), some (.int (nI (k + 1))), none]) ⟨Or.inr rfl, Or.inr rfl, Or.inr rfl, Or.inr rfl, Or.inr rfl, Or.inr rfl, Or.inr (by rw [hap3, List.length_append, List.length_singleton, ← nI_inc]), Or.inr rfl, Or.inr rfl, Or.inr rfl, Or.inr rfl, Or.inr (by rw [← nI_inc]), Or.inl rfl, trivial⟩ ?_
                    exact ih3 (k + 1) (Q ++ [st k s]) _ _ _ _ ⟨by omega, hox, hpu.1, hpu.2, by rw [hap3]; exact hln.push _, hfr.up _ _ (fun x => by rw [hap3, List.mem_append, List.mem_singleton]; exact ⟨fun q => q.elim Or.inr Or.inl, fun q => q.elim Or.inr Or.inl⟩)⟩ (by omega)
              · skip
                have h147 : e.2 ≤ f s := Nat.le_of_not_lt (fun q => c147 (nI_lt q (by omega)))
                have hq9 : ∀ x, x ∈ Q → e.2 ≤ f x := fun x hx => by
                  have h3 := (List.pairwise_append.mp hL.2.2.1).2.1
                  rw [hQ] at h3 hx
                  rcases List.mem_cons.mp hx with rfl | hx
                  · exact h147
                  · have := (List.pairwise_cons.mp h3).1 x hx
                    omega
                
                refine j_aload_n dX3_listOf_150 rfl ?_
                refine j_get 37 dX3_listOf_151 (by first | rfl | assumption) in_X3 rfl (by decide) q1136 rfl ?_
                refine j_iload dX3_listOf_154 rfl ?_
                refine j_iald 0 t dX3_listOf_156 (by first | rfl | assumption) rfl rfl (by show t < 80000; omega) (by decide) ?_
                refine j_eqi (show _ = nI e.1 from (hsr t e he).1) ?_
                refine j_istore dX3_listOf_157 (by decide) rfl ?_
                refine j_aload_n dX3_listOf_159 rfl ?_
                refine j_get 34 dX3_listOf_160 (by first | rfl | assumption) in_X3 rfl (by decide) q1133 rfl ?_
                refine j_iload dX3_listOf_163 rfl ?_
                refine j_iald 0 e.1 dX3_listOf_165 (by first | rfl | assumption) rfl rfl (by show e.1 < 80000; omega) (by decide) ?_
                refine j_iconst (v := (-1)) dX3_listOf_166 (by decide) ?_
                refine j_icmp_ne (tgt := 197) dX3_listOf_167 (by decide) (fun c167 => ?_) (fun c167 => ?_)
                · skip
                  have hem : e.1 ∈ P ++ Q := Classical.byContradiction (fun q => c167 ((hfr e.1 hee.1).2 q))
                  refine j_iinc dX3_listOf_197 rfl (by decide) rfl ?_
                  refine j_goto (tgt := 102) dX3_listOf_200 (by decide) ?_
                  refine j_less (L' := [some (.ref (r 100)), some (.int (nI (encM m a))), some (.int (nI had)), some (.int (nI SR.length)), some (.int (fo)), some (.int (bI cn)), some (.int (nI ((P ++ Q).length))), some (.int (nI (t + 1))), some (.int (nI (P.length))), some (.int (0)), none, none, none]) ⟨Or.inr rfl, Or.inr rfl, Or.inr rfl, Or.inr rfl, Or.inr rfl, Or.inr rfl, Or.inr rfl, Or.inr (by rw [← nI_inc]), Or.inr rfl, Or.inr rfl, Or.inl rfl, Or.inl rfl, Or.inl rfl, trivial⟩ ?_
                  exact ih2 P Q (t + 1) f b fr ln ⟨hb, by omega, hL.old he hem, hln, hfr⟩ (by omega)
                · skip
                  have hem : e.1 ∉ P ++ Q := fun q => by
                    have h9 := (hfr e.1 hee.1).1 q
                    obtain ⟨j9, hj9⟩ := List.getElem?_of_mem q
                    have h8 := hL.2.2.2.2.2.2.2 j9 e.1 hj9
                    have h7 := (List.getElem?_eq_some_iff.mp hj9).1
                    exact nI_m1 (by omega) (h9.symm.trans c167)
                  have hl1 := hL.len1 hee.1 hem
                  refine j_aload_n dX3_listOf_170 rfl ?_
                  refine j_get 34 dX3_listOf_171 (by first | rfl | assumption) in_X3 rfl (by decide) q1133 rfl ?_
                  refine j_iload dX3_listOf_174 rfl ?_
                  refine j_aload_n dX3_listOf_176 rfl ?_
                  refine j_get 36 dX3_listOf_177 (by first | rfl | assumption) in_X3 rfl (by decide) q1135 rfl ?_
                  refine j_iload dX3_listOf_180 rfl ?_
                  refine j_iald 0 t dX3_listOf_182 (by first | rfl | assumption) rfl rfl (by show t < 80000; omega) (by decide) ?_
                  refine j_eqi (show _ = nI e.2 from (hsr t e he).2) ?_
                  refine j_iast 0 e.1 dX3_listOf_183 (by first | rfl | assumption) rfl rfl (by show e.1 < 80000; omega) (by decide) ?_
                  refine j_mdW (f := _) (by decide) (by decide) rfl ?_
                  refine j_aload_n dX3_listOf_184 rfl ?_
                  refine j_iload dX3_listOf_185 rfl ?_
                  refine j_iload dX3_listOf_187 rfl ?_
                  refine j_iload dX3_listOf_189 rfl ?_
                  refine j_callV (m_insert (fr := upd fr e.1 (nI e.2)) (ln := ln) (by' := by') (mo := mo) P.length (P ++ Q).length e.1 (by omega) (by omega)) q_ins.isR dX3_listOf_191 pmX3_insert q1425 q1427 qs54 (by first | rfl | assumption) rfl rfl rfl ⟨Nat.le_of_ble_eq_true rfl, Nat.le_of_ble_eq_true rfl⟩ ⟨Nat.le_of_ble_eq_true rfl, Nat.le_of_ble_eq_true rfl⟩ rfl (Nat.le_of_ble_eq_true rfl) ?_
                  rintro v9 r h9 nx ⟨e9, rfl, rfl, l2, rfl, hl2, hl3, hl4⟩
                  cases e9
                  refine j_iinc dX3_listOf_194 rfl (by decide) rfl ?_
                  refine j_iinc dX3_listOf_197 rfl (by decide) rfl ?_
                  refine j_goto (tgt := 102) dX3_listOf_200 (by decide) ?_
                  refine j_less (L' := [some (.ref (r 100)), some (.int (nI (encM m a))), some (.int (nI had)), some (.int (nI SR.length)), some (.int (fo)), some (.int (bI cn)), some (.int (nI ((P ++ e.1 :: Q).length))), some (.int (nI (t + 1))), some (.int (nI (P.length))), some (.int (0)), none, none, none]) ⟨Or.inr rfl, Or.inr rfl, Or.inr rfl, Or.inr rfl, Or.inr rfl, Or.inr rfl, Or.inr (by rw [List.length_append, List.length_cons, ← Nat.add_assoc, ← List.length_append, ← nI_inc]), Or.inr (by rw [← nI_inc]), Or.inr rfl, Or.inr rfl, Or.inl rfl, Or.inl rfl, Or.inl rfl, trivial⟩ ?_
                  exact ih2 P (e.1 :: Q) (t + 1) _ b _ l2 ⟨hb, by omega, hL.src hO he hem hq9, hln.ins hl2 hl3 (fun j h1 h2 => hl4 j h1 (by omega)), hfr.up e.1 e.2 (fun x => mem_ins)⟩ (by omega)
          · skip
            have h106 : Q = [] := by
              cases Q with
              | nil => rfl
              | cons s Q' => exact absurd (nI_lt (by rw [hle, List.length_cons]; omega) (by omega)) c106
            refine j_iload dX3_listOf_109 rfl ?_
            refine j_iload_n dX3_listOf_111 rfl ?_
            refine j_icmp_ge (tgt := 285) dX3_listOf_112 (by decide) (fun c112 => ?_) (fun c112 => ?_)
            · skip
              have hte : t = SR.length := by
                have := (nI_leI (by omega) (by omega)).mp c112
                omega
              have hLf : lbI st nk (8 * m * m) (had * 80000) SR (fun _ _ => False) f P [] SR.length := by rw [hte, h106] at hL; exact hL
              rw [h106, List.append_nil] at hln hfr
              have hle0 : (P ++ Q).length = P.length := by rw [h106, List.append_nil]
              have hPl : P.length ≤ 8 * m * m := by have := hLf.len; omega
              refine j_aload_n dX3_listOf_285 rfl ?_
              refine j_get 28 dX3_listOf_286 (by first | rfl | assumption) in_X3 rfl (by decide) q1127 rfl ?_
              refine j_iload_n dX3_listOf_289 rfl ?_
              refine j_iald 0 had dX3_listOf_290 (by first | rfl | assumption) rfl rfl (by show had < 6; omega) (by decide) ?_
              refine j_eqi (show _ = nI (tg had) from (htg had hhl).1) ?_
              refine j_istore dX3_listOf_291 (by decide) rfl ?_
              refine j_iconst (v := 0) dX3_listOf_293 (by decide) ?_
              refine j_istore dX3_listOf_294 (by decide) rfl ?_
              refine j_less (L' := [some (.ref (r 100)), some (.int (nI (encM m a))), some (.int (nI had)), some (.int (nI SR.length)), some (.int (fo)), some (.int (bI cn)), some (.int (nI (P.length))), some (.int (nI SR.length)), some (.int (nI (P.length))), some (.int (nI ([] : List Nat).length)), some (.int (nI (tg had))), some (.int (nI 0)), none]) ⟨Or.inr rfl, Or.inr rfl, Or.inr rfl, Or.inr rfl, Or.inr rfl, Or.inr rfl, Or.inr (by rw [hle0]), Or.inr (by rw [hte]), Or.inr rfl, Or.inr rfl, Or.inr rfl, Or.inr rfl, Or.inl rfl, trivial⟩ ?_
              refine j_lp3 (fun (q : Nat) (M : List Nat) (mo : Nat → Int32) => (mdS r dT g (nI kd) bs fg m nk b.1 b.2.1 b.2.2.1 b.2.2.2 F tk (vo V [(109, fr), (110, ln), (111, by'), (112, mo)]))) (fun q M _ => [some (.ref (r 100)), some (.int (nI (encM m a))), some (.int (nI had)), some (.int (nI SR.length)), some (.int (fo)), some (.int (bI cn)), some (.int (nI (P.length))), some (.int (nI SR.length)), some (.int (nI (P.length))), some (.int (nI M.length)), some (.int (nI (tg had))), some (.int (nI q)), none]) (fun q M mo => q ≤ P.length ∧ M = (P.take q).filter (fun x => x / 8 / m == tg had) ∧ lnR M mo) (fun q _ _ => P.length - q) ?_ 0 [] mo ⟨Nat.zero_le _, rfl, fun j x hj => by simp at hj⟩
              clear hsr
              intro q M mo ⟨hq, hM, hmo⟩ ih4
              refine j_iload dX3_listOf_296 rfl ?_
              refine j_iload dX3_listOf_298 rfl ?_
              refine j_icmp_ge (tgt := 342) dX3_listOf_300 (by decide) (fun c300 => ?_) (fun c300 => ?_)
              · skip
                have hqe : q = P.length := by
                  have := (nI_leI (by omega) (by omega)).mp c300
                  omega
                rw [hqe, List.take_length] at hM
                have hMl : M.length ≤ P.length := by rw [hM]; exact List.length_filter_le _ _
                refine j_iconst (v := 0) dX3_listOf_342 (by decide) ?_
                refine j_istore dX3_listOf_343 (by decide) rfl ?_
                refine j_less (L' := [some (.ref (r 100)), some (.int (nI (encM m a))), some (.int (nI had)), some (.int (nI SR.length)), some (.int (fo)), some (.int (bI cn)), some (.int (nI (P.length))), some (.int (nI SR.length)), some (.int (nI (P.length))), some (.int (nI M.length)), some (.int (nI (tg had))), some (.int (nI 0)), none]) ⟨Or.inr rfl, Or.inr rfl, Or.inr rfl, Or.inr rfl, Or.inr rfl, Or.inr rfl, Or.inr rfl, Or.inr rfl, Or.inr rfl, Or.inr rfl, Or.inr rfl, Or.inr rfl, Or.inl rfl, trivial⟩ ?_
                refine j_lp2 (fun (q : Nat) (by' : Nat → Int32) => (mdS r dT g (nI kd) bs fg m nk b.1 b.2.1 b.2.2.1 b.2.2.2 F tk (vo V [(109, fr), (110, ln), (111, by'), (112, mo)]))) (fun q _ => [some (.ref (r 100)), some (.int (nI (encM m a))), some (.int (nI had)), some (.int (nI SR.length)), some (.int (fo)), some (.int (bI cn)), some (.int (nI (P.length))), some (.int (nI SR.length)), some (.int (nI (P.length))), some (.int (nI M.length)), some (.int (nI (tg had))), some (.int (nI q)), none]) (fun q by' => q ≤ M.length ∧ ∀ j x, j < q → M[j]? = some x → by' j = nI (f x)) (fun q _ => M.length - q) ?_ 0 by' ⟨Nat.zero_le _, fun j x hj => absurd hj (Nat.not_lt_zero _)⟩
                intro q by' ⟨hq, hby⟩ ih5
                refine j_iload dX3_listOf_345 rfl ?_
                refine j_iload dX3_listOf_347 rfl ?_
                refine j_icmp_ge (tgt := 377) dX3_listOf_349 (by decide) (fun c349 => ?_) (fun c349 => ?_)
                · skip
                  have hqe : q = M.length := by
                    have := (nI_leI (by omega) (by omega)).mp c349
                    omega
                  have hSe : (srcN f (fun x => x / 8 / m) (tg had) P) = M.map (fun x => (x, f x)) := by rw [hM]; rfl
                  have hSl : (srcN f (fun x => x / 8 / m) (tg had) P).length = M.length := by rw [hSe, List.length_map]
                  have hsr2 : srR (srcN f (fun x => x / 8 / m) (tg had) P) mo by' := fun j e he => by
                    rw [hSe, List.getElem?_map] at he
                    obtain ⟨x, hx, hxe⟩ := Option.map_eq_some_iff.mp he
                    rw [← hxe]
                    exact ⟨hmo j x hx, hby j x (by rw [hqe]; exact (List.getElem?_eq_some_iff.mp hx).1) hx⟩
                  have hO2 : lbO (8 * m * m) ((had + 1) * 80000) (srcN f (fun x => x / 8 / m) (tg had) P) := by
                    have h9 := lbO.next (sh := (fun x => x / 8 / m)) (v := tg had) hLf
                    exact ⟨h9.1, fun e he => ⟨(h9.2 e he).1, by have := (h9.2 e he).2; omega⟩⟩
                  refine j_iload dX3_listOf_377 rfl ?_
                  refine j_istore_n dX3_listOf_379 (by decide) rfl ?_
                  refine j_aload_n dX3_listOf_380 rfl ?_
                  refine j_iload_n dX3_listOf_381 rfl ?_
                  refine j_iload dX3_listOf_382 rfl ?_
                  refine j_callV (m_goOn (V := (vo V [(109, fr), (110, ln), (111, by'), (112, mo)])) had (tg had) tg htg hm2 hn6 hhad (htg had hhl).2) q_go.isR dX3_listOf_384 pmX3_goOn q1421 q1423 qs53 (by first | rfl | assumption) rfl rfl rfl ⟨Nat.le_of_ble_eq_true rfl, Nat.le_of_ble_eq_true rfl⟩ ⟨Nat.le_of_ble_eq_true rfl, Nat.le_of_ble_eq_true rfl⟩ rfl (Nat.le_of_ble_eq_true rfl) ?_
                  rintro v9 r h9 nx ⟨rfl, rfl, rfl, had2, e9, hg1, hg2, hg3, hg4⟩
                  cases e9
                  have hh1 := hg4 hhl rfl
                  have hnx := hsrc.next hLf hh1 hg3
                  have hO3 : lbO (8 * m * m) (had2 * 80000) (srcN f (fun x => x / 8 / m) (tg had) P) := ⟨hO2.1, fun e he => ⟨(hO2.2 e he).1, by
                    have h1 := (hO2.2 e he).2
                    have h2 : (had + 1) * 80000 ≤ had2 * 80000 := Nat.mul_le_mul_right _ hh1
                    exact Nat.le_trans h1 h2⟩⟩
                  have h0 : M.length = 0 → A = -1 := fun hz => hA0 (stgN.none hg2 (fun x n hx => by
                    obtain ⟨d, _, hd⟩ := hnx.2.2 x n hx
                    have h9 := List.length_pos_of_mem hd
                    omega))
                  have h1 : 0 < M.length → had2 = F 27 → by' 0 = A := fun hz he => by
                    obtain ⟨e, he0⟩ : ∃ e, (srcN f (fun x => x / 8 / m) (tg had) P)[0]? = some e := ⟨_, List.getElem?_eq_getElem (by omega)⟩
                    rw [(hsr2 0 e he0).2]
                    have hem := List.mem_of_getElem? he0
                    refine hA1 e.2 e.1 (he ▸ hnx.2.1 e.1 e.2 hem) (fun x n hx => ?_) (by have := (hO3.2 e hem).2; omega)
                    rw [← he] at hx
                    obtain ⟨d, hd1, hd2⟩ := hnx.2.2 x n hx
                    obtain ⟨j, hj⟩ := List.getElem?_of_mem hd2
                    have := hO3.mono (Nat.zero_le j) he0 hj
                    omega
                  show J _ _ _ _ _ _ _ _ _ _ _ _ (.int _ :: _)
                  refine j_istore_n dX3_listOf_387 (by decide) rfl ?_
                  refine j_join (tgt := 411) (fun x => (M.length = 0 ∨ had2 = F 27) → x = A) (fun v388 hv388 => ?_) (fun kj388 => ?_)
                  · skip
                    generalize v388 = fo2 at hv388 ⊢
                    refine j_istore dX3_listOf_411 (by decide) rfl ?_
                    refine j_join (tgt := 431) (fun x => x = bI (decide (0 < M.length ∧ had2 < F 27))) (fun v413 hv413 => ?_) (fun kj413 => ?_)
                    · skip
                      subst hv413
                      refine j_istore dX3_listOf_431 (by decide) rfl ?_
                      refine j_goto (tgt := 59) dX3_listOf_433 (by decide) ?_
                      refine j_less (L' := [some (.ref (r 100)), some (.int (nI (encM m a))), some (.int (nI had2)), some (.int (nI (srcN f (fun x => x / 8 / m) (tg had) P).length)), some (.int (fo2)), some (.int (bI (decide (0 < M.length ∧ had2 < F 27)))), none, none, none, none, none, none, none]) ⟨Or.inr rfl, Or.inr rfl, Or.inr rfl, Or.inr (by rw [hSl]), Or.inr rfl, Or.inr rfl, Or.inl rfl, Or.inl rfl, Or.inl rfl, Or.inl rfl, Or.inl rfl, Or.inl rfl, Or.inl rfl, trivial⟩ ?_
                      refine ih had2 fo2 _ (srcN f (fun x => x / 8 / m) (tg had) P) b fr ln by' mo ⟨hb, hg2, by omega, hO3, hsr2, hnx.1, fun q => (of_decide_eq_true q).2, fun q => hv388 ?_⟩ (by omega)
                      have h9 := of_decide_eq_false q
                      rcases Nat.eq_zero_or_pos M.length with z | z
                      · exact Or.inl z
                      · exact Or.inr (Classical.byContradiction (fun y => h9 ⟨z, by omega⟩))
                    · skip
                      refine j_iload dX3_listOf_413 rfl ?_
                      refine j_if_le (tgt := 430) dX3_listOf_415 (by decide) (fun c415 => ?_) (fun c415 => ?_)
                      · skip
                        have hj : (0 : Int32) = bI (decide (0 < M.length ∧ had2 < F 27)) := by
                          rw [decide_eq_false (fun q => absurd c415 (nI_nle q.1 (by omega)))]
                          rfl
                        refine j_iconst (v := 0) dX3_listOf_430 (by decide) ?_
                        exact kj413 _ hj
                      · skip
                        have h415 : 0 < M.length := by
                          rcases Nat.eq_zero_or_pos M.length with q | q
                          · exact absurd (by rw [q]; exact Int32.le_refl _) c415
                          · exact q
                        refine j_iload_n dX3_listOf_418 rfl ?_
                        refine j_aload_n dX3_listOf_419 rfl ?_
                        refine j_get 27 dX3_listOf_420 (by first | rfl | assumption) in_X3 rfl (by decide) q1126 rfl ?_
                        refine j_icmp_ge (tgt := 430) dX3_listOf_423 (by decide) (fun c423 => ?_) (fun c423 => ?_)
                        · skip
                          have hj : (0 : Int32) = bI (decide (0 < M.length ∧ had2 < F 27)) := by
                            have h423 := (nI_leI (by omega) (by omega)).mp c423
                            rw [decide_eq_false (fun q => absurd q.2 (by omega))]
                            rfl
                          refine j_iconst (v := 0) dX3_listOf_430 (by decide) ?_
                          exact kj413 _ hj
                        · skip
                          have h423 : had2 < F 27 := Nat.lt_of_not_le (fun z => c423 (nI_le z (by omega)))
                          have hj : (1 : Int32) = bI (decide (0 < M.length ∧ had2 < F 27)) := by rw [decide_eq_true ⟨h415, h423⟩]; rfl
                          refine j_iconst (v := 1) dX3_listOf_426 (by decide) ?_
                          refine j_goto (tgt := 431) dX3_listOf_427 (by decide) ?_
                          exact kj413 _ hj
                  · skip
                    refine j_iload_n dX3_listOf_388 rfl ?_
                    refine j_aload_n dX3_listOf_389 rfl ?_
                    refine j_get 27 dX3_listOf_390 (by first | rfl | assumption) in_X3 rfl (by decide) q1126 rfl ?_
                    refine j_icmp_ne (tgt := 410) dX3_listOf_393 (by decide) (fun c393 => ?_) (fun c393 => ?_)
                    · skip
                      have h393 : ¬ had2 = F 27 := fun q => c393 (by rw [q])
                      have hj : (M.length = 0 ∨ had2 = F 27) → (-1 : Int32) = A := fun q => (h0 (q.resolve_right h393)).symm
                      refine j_iconst (v := (-1)) dX3_listOf_410 (by decide) ?_
                      exact kj388 _ hj
                    · skip
                      have h393 : had2 = F 27 := (nI_eq (by omega) (by omega)).mp c393
                      refine j_iload dX3_listOf_396 rfl ?_
                      refine j_if_le (tgt := 410) dX3_listOf_398 (by decide) (fun c398 => ?_) (fun c398 => ?_)
                      · skip
                        have h398 : M.length = 0 := by
                          rcases Nat.eq_zero_or_pos M.length with q | q
                          · exact q
                          · exact absurd c398 (nI_nle q (by omega))
                        have hj : (M.length = 0 ∨ had2 = F 27) → (-1 : Int32) = A := fun q => (h0 h398).symm
                        refine j_iconst (v := (-1)) dX3_listOf_410 (by decide) ?_
                        exact kj388 _ hj
                      · skip
                        have h398 : 0 < M.length := by
                          rcases Nat.eq_zero_or_pos M.length with q | q
                          · exact absurd (by rw [q]; exact Int32.le_refl _) c398
                          · exact q
                        have hj : (M.length = 0 ∨ had2 = F 27) → by' 0 = A := fun _ => h1 h398 h393
                        refine j_aload_n dX3_listOf_401 rfl ?_
                        refine j_get 36 dX3_listOf_402 (by first | rfl | assumption) in_X3 rfl (by decide) q1135 rfl ?_
                        refine j_iconst (v := 0) dX3_listOf_405 (by decide) ?_
                        refine j_iald 0 0 dX3_listOf_406 (by first | rfl | assumption) rfl rfl (by decide) (by decide) ?_
                        refine j_goto (tgt := 411) dX3_listOf_407 (by decide) ?_
                        exact kj388 _ hj
                · skip
                  have hql : q < M.length := Nat.lt_of_not_le (fun z => c349 (nI_le z (by omega)))
                  obtain ⟨x, hx⟩ : ∃ x, M[q]? = some x := ⟨_, List.getElem?_eq_getElem hql⟩
                  have hxP : x ∈ P := by
                    have h9 := List.mem_of_getElem? hx
                    rw [hM] at h9
                    exact (List.mem_filter.mp h9).1
                  have hxN : x < 8 * m * m := hLf.1.2 x (List.mem_append_left _ hxP)
                  refine j_aload_n dX3_listOf_352 rfl ?_
                  refine j_get 36 dX3_listOf_353 (by first | rfl | assumption) in_X3 rfl (by decide) q1135 rfl ?_
                  refine j_iload dX3_listOf_356 rfl ?_
                  refine j_aload_n dX3_listOf_358 rfl ?_
                  refine j_get 34 dX3_listOf_359 (by first | rfl | assumption) in_X3 rfl (by decide) q1133 rfl ?_
                  refine j_aload_n dX3_listOf_362 rfl ?_
                  refine j_get 37 dX3_listOf_363 (by first | rfl | assumption) in_X3 rfl (by decide) q1136 rfl ?_
                  refine j_iload dX3_listOf_366 rfl ?_
                  refine j_iald 0 q dX3_listOf_368 (by first | rfl | assumption) rfl rfl (by show q < 80000; omega) (by decide) ?_
                  refine j_eqi (show _ = nI x from hmo q x hx) ?_
                  refine j_iald 0 x dX3_listOf_369 (by first | rfl | assumption) rfl rfl (by show x < 80000; omega) (by decide) ?_
                  refine j_eqi (show _ = nI (f x) from (hfr x hxN).1 hxP) ?_
                  refine j_iast 0 q dX3_listOf_370 (by first | rfl | assumption) rfl rfl (by show q < 80000; omega) (by decide) ?_
                  refine j_mdW (f := _) (by decide) (by decide) rfl ?_
                  refine j_iinc dX3_listOf_371 rfl (by decide) rfl ?_
                  refine j_goto (tgt := 345) dX3_listOf_374 (by decide) ?_
                  refine j_less (L' := [some (.ref (r 100)), some (.int (nI (encM m a))), some (.int (nI had)), some (.int (nI SR.length)), some (.int (fo)), some (.int (bI cn)), some (.int (nI (P.length))), some (.int (nI SR.length)), some (.int (nI (P.length))), some (.int (nI M.length)), some (.int (nI (tg had))), some (.int (nI (q + 1))), none]) ⟨Or.inr rfl, Or.inr rfl, Or.inr rfl, Or.inr rfl, Or.inr rfl, Or.inr rfl, Or.inr rfl, Or.inr rfl, Or.inr rfl, Or.inr rfl, Or.inr rfl, Or.inr (by rw [← nI_inc]), Or.inl rfl, trivial⟩ ?_
                  refine ih5 (q + 1) _ ⟨by omega, fun j y hj hy => ?_⟩ (by omega)
                  by_cases he : j = q
                  · subst he
                    rw [hx] at hy
                    cases hy
                    exact pk_us
                  · exact (pk_un he).trans (hby j y (by omega) hy)
              · skip
                have hql : q < P.length := Nat.lt_of_not_le (fun z => c300 (nI_le z (by omega)))
                obtain ⟨x, hx⟩ : ∃ x, P[q]? = some x := ⟨_, List.getElem?_eq_getElem hql⟩
                have hxN : x < 8 * m * m := hLf.1.2 x (List.mem_append_left _ (List.mem_of_getElem? hx))
                have hxm : x / 8 / m < m := (decM_ok hm hxN).2.2.1
                have htl := (htg had hhl).2
                have hMl : M.length ≤ q := by
                  have h9 := List.length_filter_le (fun x => x / 8 / m == tg had) (P.take q)
                  rw [← hM, List.length_take] at h9
                  omega
                have htk : P.take (q + 1) = P.take q ++ [x] := by rw [List.take_add_one, hx]; rfl
                refine j_aload_n dX3_listOf_303 rfl ?_
                refine j_aload_n dX3_listOf_304 rfl ?_
                refine j_get 35 dX3_listOf_305 (by first | rfl | assumption) in_X3 rfl (by decide) q1134 rfl ?_
                refine j_iload dX3_listOf_308 rfl ?_
                refine j_iald 0 q dX3_listOf_310 (by first | rfl | assumption) rfl rfl (by show q < 80000; omega) (by decide) ?_
                refine j_eqi (show _ = nI x from hln q x hx) ?_
                refine j_callVi (m_shownIn hm hm2 x (by omega)) dX3_listOf_311 pmX3_shownIn q1352 q1354 qs45 (by first | rfl | assumption) rfl rfl rfl ⟨Nat.le_of_ble_eq_true rfl, Nat.le_of_ble_eq_true rfl⟩ ⟨Nat.le_of_ble_eq_true rfl, Nat.le_of_ble_eq_true rfl⟩ rfl (Nat.le_of_ble_eq_true rfl) ?_
                refine j_iload dX3_listOf_314 rfl ?_
                refine j_icmp_ne (tgt := 336) dX3_listOf_316 (by decide) (fun c316 => ?_) (fun c316 => ?_)
                · skip
                  have hne : ¬ x / 8 / m = tg had := fun z => c316 (by rw [z])
                  have hM2 : M = (P.take (q + 1)).filter (fun x => x / 8 / m == tg had) := by rw [htk, List.filter_append, ← hM]; simp [hne]
                  refine j_iinc dX3_listOf_336 rfl (by decide) rfl ?_
                  refine j_goto (tgt := 296) dX3_listOf_339 (by decide) ?_
                  refine j_less (L' := [some (.ref (r 100)), some (.int (nI (encM m a))), some (.int (nI had)), some (.int (nI SR.length)), some (.int (fo)), some (.int (bI cn)), some (.int (nI (P.length))), some (.int (nI SR.length)), some (.int (nI (P.length))), some (.int (nI M.length)), some (.int (nI (tg had))), some (.int (nI (q + 1))), none]) ⟨Or.inr rfl, Or.inr rfl, Or.inr rfl, Or.inr rfl, Or.inr rfl, Or.inr rfl, Or.inr rfl, Or.inr rfl, Or.inr rfl, Or.inr rfl, Or.inr rfl, Or.inr (by rw [← nI_inc]), Or.inl rfl, trivial⟩ ?_
                  exact ih4 (q + 1) M mo ⟨by omega, hM2, hmo⟩ (by omega)
                · skip
                  have hne : x / 8 / m = tg had := (nI_eq (by omega) (by omega)).mp c316
                  have hM2 : M ++ [x] = (P.take (q + 1)).filter (fun x => x / 8 / m == tg had) := by rw [htk, List.filter_append, ← hM]; simp [hne]
                  refine j_aload_n dX3_listOf_319 rfl ?_
                  refine j_get 37 dX3_listOf_320 (by first | rfl | assumption) in_X3 rfl (by decide) q1136 rfl ?_
                  refine j_iload dX3_listOf_323 rfl ?_
                  refine j_aload_n dX3_listOf_325 rfl ?_
                  refine j_get 35 dX3_listOf_326 (by first | rfl | assumption) in_X3 rfl (by decide) q1134 rfl ?_
                  refine j_iload dX3_listOf_329 rfl ?_
                  refine j_iald 0 q dX3_listOf_331 (by first | rfl | assumption) rfl rfl (by show q < 80000; omega) (by decide) ?_
                  refine j_eqi (show _ = nI x from hln q x hx) ?_
                  refine j_iast 0 M.length dX3_listOf_332 (by first | rfl | assumption) rfl rfl (by show M.length < 80000; omega) (by decide) ?_
                  refine j_mdW (f := _) (by decide) (by decide) rfl ?_
                  refine j_iinc dX3_listOf_333 rfl (by decide) rfl ?_
                  refine j_iinc dX3_listOf_336 rfl (by decide) rfl ?_
                  refine j_goto (tgt := 296) dX3_listOf_339 (by decide) ?_
                  refine j_less (L' := [some (.ref (r 100)), some (.int (nI (encM m a))), some (.int (nI had)), some (.int (nI SR.length)), some (.int (fo)), some (.int (bI cn)), some (.int (nI (P.length))), some (.int (nI SR.length)), some (.int (nI (P.length))), some (.int (nI (M ++ [x]).length)), some (.int (nI (tg had))), some (.int (nI (q + 1))), none]) ⟨Or.inr rfl, Or.inr rfl, Or.inr rfl, Or.inr rfl, Or.inr rfl, Or.inr rfl, Or.inr rfl, Or.inr rfl, Or.inr rfl, Or.inr (by rw [List.length_append, List.length_singleton, ← nI_inc]), Or.inr rfl, Or.inr (by rw [← nI_inc]), Or.inl rfl, trivial⟩ ?_
                  exact ih4 (q + 1) (M ++ [x]) _ ⟨by omega, hM2, hmo.push x⟩ (by omega)
            · skip
              have htl : t < SR.length := Nat.lt_of_not_le (fun q => c112 (nI_le q (by omega)))
              refine j_iload dX3_listOf_115 rfl ?_
              refine j_iload_n dX3_listOf_117 rfl ?_
              refine j_icmp_ge (tgt := 203) dX3_listOf_118 (by decide) (fun c118 => absurd c118 (fun q => absurd ((nI_leI (by omega) (by omega)).mp q) (by omega))) (fun c118 => ?_)
              refine j_iload dX3_listOf_121 rfl ?_
              refine j_iload dX3_listOf_123 rfl ?_
              refine j_icmp_eq (tgt := 150) dX3_listOf_125 (by decide) (fun c125 => ?_) (fun c125 => absurd (by rw [h106, List.append_nil]) c125)
              obtain ⟨e, he⟩ : ∃ e, SR[t]? = some e := ⟨_, List.getElem?_eq_getElem htl⟩
              have hee := hO.2 e (List.mem_of_getElem? he)
              have hq9 : ∀ x, x ∈ Q → e.2 ≤ f x := fun x hx => by rw [h106] at hx; exact absurd hx List.not_mem_nil
              refine j_aload_n dX3_listOf_150 rfl ?_
              refine j_get 37 dX3_listOf_151 (by first | rfl | assumption) in_X3 rfl (by decide) q1136 rfl ?_
              refine j_iload dX3_listOf_154 rfl ?_
              refine j_iald 0 t dX3_listOf_156 (by first | rfl | assumption) rfl rfl (by show t < 80000; omega) (by decide) ?_
              refine j_eqi (show _ = nI e.1 from (hsr t e he).1) ?_
              refine j_istore dX3_listOf_157 (by decide) rfl ?_
              refine j_aload_n dX3_listOf_159 rfl ?_
              refine j_get 34 dX3_listOf_160 (by first | rfl | assumption) in_X3 rfl (by decide) q1133 rfl ?_
              refine j_iload dX3_listOf_163 rfl ?_
              refine j_iald 0 e.1 dX3_listOf_165 (by first | rfl | assumption) rfl rfl (by show e.1 < 80000; omega) (by decide) ?_
              refine j_iconst (v := (-1)) dX3_listOf_166 (by decide) ?_
              refine j_icmp_ne (tgt := 197) dX3_listOf_167 (by decide) (fun c167 => ?_) (fun c167 => ?_)
              · skip
                have hem : e.1 ∈ P ++ Q := Classical.byContradiction (fun q => c167 ((hfr e.1 hee.1).2 q))
                refine j_iinc dX3_listOf_197 rfl (by decide) rfl ?_
                refine j_goto (tgt := 102) dX3_listOf_200 (by decide) ?_
                refine j_less (L' := [some (.ref (r 100)), some (.int (nI (encM m a))), some (.int (nI had)), some (.int (nI SR.length)), some (.int (fo)), some (.int (bI cn)), some (.int (nI ((P ++ Q).length))), some (.int (nI (t + 1))), some (.int (nI (P.length))), some (.int (0)), none, none, none]) ⟨Or.inr rfl, Or.inr rfl, Or.inr rfl, Or.inr rfl, Or.inr rfl, Or.inr rfl, Or.inr rfl, Or.inr (by rw [← nI_inc]), Or.inr rfl, Or.inr rfl, Or.inl rfl, Or.inl rfl, Or.inl rfl, trivial⟩ ?_
                exact ih2 P Q (t + 1) f b fr ln ⟨hb, by omega, hL.old he hem, hln, hfr⟩ (by omega)
              · skip
                have hem : e.1 ∉ P ++ Q := fun q => by
                  have h9 := (hfr e.1 hee.1).1 q
                  obtain ⟨j9, hj9⟩ := List.getElem?_of_mem q
                  have h8 := hL.2.2.2.2.2.2.2 j9 e.1 hj9
                  have h7 := (List.getElem?_eq_some_iff.mp hj9).1
                  exact nI_m1 (by omega) (h9.symm.trans c167)
                have hl1 := hL.len1 hee.1 hem
                refine j_aload_n dX3_listOf_170 rfl ?_
                refine j_get 34 dX3_listOf_171 (by first | rfl | assumption) in_X3 rfl (by decide) q1133 rfl ?_
                refine j_iload dX3_listOf_174 rfl ?_
                refine j_aload_n dX3_listOf_176 rfl ?_
                refine j_get 36 dX3_listOf_177 (by first | rfl | assumption) in_X3 rfl (by decide) q1135 rfl ?_
                refine j_iload dX3_listOf_180 rfl ?_
                refine j_iald 0 t dX3_listOf_182 (by first | rfl | assumption) rfl rfl (by show t < 80000; omega) (by decide) ?_
                refine j_eqi (show _ = nI e.2 from (hsr t e he).2) ?_
                refine j_iast 0 e.1 dX3_listOf_183 (by first | rfl | assumption) rfl rfl (by show e.1 < 80000; omega) (by decide) ?_
                refine j_mdW (f := _) (by decide) (by decide) rfl ?_
                refine j_aload_n dX3_listOf_184 rfl ?_
                refine j_iload dX3_listOf_185 rfl ?_
                refine j_iload dX3_listOf_187 rfl ?_
                refine j_iload dX3_listOf_189 rfl ?_
                refine j_callV (m_insert (fr := upd fr e.1 (nI e.2)) (ln := ln) (by' := by') (mo := mo) P.length (P ++ Q).length e.1 (by omega) (by omega)) q_ins.isR dX3_listOf_191 pmX3_insert q1425 q1427 qs54 (by first | rfl | assumption) rfl rfl rfl ⟨Nat.le_of_ble_eq_true rfl, Nat.le_of_ble_eq_true rfl⟩ ⟨Nat.le_of_ble_eq_true rfl, Nat.le_of_ble_eq_true rfl⟩ rfl (Nat.le_of_ble_eq_true rfl) ?_
                rintro v9 r h9 nx ⟨e9, rfl, rfl, l2, rfl, hl2, hl3, hl4⟩
                cases e9
                refine j_iinc dX3_listOf_194 rfl (by decide) rfl ?_
                refine j_iinc dX3_listOf_197 rfl (by decide) rfl ?_
                refine j_goto (tgt := 102) dX3_listOf_200 (by decide) ?_
                refine j_less (L' := [some (.ref (r 100)), some (.int (nI (encM m a))), some (.int (nI had)), some (.int (nI SR.length)), some (.int (fo)), some (.int (bI cn)), some (.int (nI ((P ++ e.1 :: Q).length))), some (.int (nI (t + 1))), some (.int (nI (P.length))), some (.int (0)), none, none, none]) ⟨Or.inr rfl, Or.inr rfl, Or.inr rfl, Or.inr rfl, Or.inr rfl, Or.inr rfl, Or.inr (by rw [List.length_append, List.length_cons, ← Nat.add_assoc, ← List.length_append, ← nI_inc]), Or.inr (by rw [← nI_inc]), Or.inr rfl, Or.inr rfl, Or.inl rfl, Or.inl rfl, Or.inl rfl, trivial⟩ ?_
                exact ih2 P (e.1 :: Q) (t + 1) _ b _ l2 ⟨hb, by omega, hL.src hO he hem hq9, hln.ins hl2 hl3 (fun j h1 h2 => hl4 j h1 (by omega)), hfr.up e.1 e.2 (fun x => mem_ins)⟩ (by omega)
        · skip
          have hk1 : k < 8 * m * m := Nat.lt_of_not_le (fun q => c73 (nI_le q (by omega)))
          refine j_aload_n dX3_listOf_76 rfl ?_
          refine j_get 34 dX3_listOf_77 (by first | rfl | assumption) in_X3 rfl (by decide) q1133 rfl ?_
          refine j_iload dX3_listOf_80 rfl ?_
          refine j_iconst (v := (-1)) dX3_listOf_82 (by decide) ?_
          refine j_iast 0 k dX3_listOf_83 (by first | rfl | assumption) rfl rfl (by show k < 80000; omega) (by decide) ?_
          refine j_mdW (f := _) (by decide) (by decide) rfl ?_
          refine j_iinc dX3_listOf_84 rfl (by decide) rfl ?_
          refine j_goto (tgt := 67) dX3_listOf_87 (by decide) ?_
          refine j_less (L' := [some (.ref (r 100)), some (.int (nI (encM m a))), some (.int (nI had)), some (.int (nI SR.length)), some (.int (fo)), some (.int (bI cn)), some (.int (nI (k + 1))), none, none, none, none, none, none]) ⟨Or.inr rfl, Or.inr rfl, Or.inr rfl, Or.inr rfl, Or.inr rfl, Or.inr rfl, Or.inr (by rw [← nI_inc]), Or.inl rfl, Or.inl rfl, Or.inl rfl, Or.inl rfl, Or.inl rfl, Or.inl rfl, trivial⟩ ?_
          refine ih9 (k + 1) _ ⟨by omega, fun q hq => ?_⟩ (by omega)
          by_cases hqk : q = k
          · subst hqk; exact pk_us
          · exact (pk_un hqk).trans (hz q (by omega))
    · skip
      refine j_iload dX3_listOf_46 rfl ?_
      refine j_iconst (v := (-1)) dX3_listOf_48 (by decide) ?_
      refine j_icmp_ne (tgt := 56) dX3_listOf_49 (by decide) (fun c49 => ?_) (fun c49 => ?_)
      · skip
        have h49 : had = F 27 := Classical.byContradiction (fun q => c49 (hfo2 q))
        have hj : (0 : Int32) = bI (decide (¬ had = F 27)) := by rw [decide_eq_false (fun q => q h49)]; rfl
        refine j_iconst (v := 0) dX3_listOf_56 (by decide) ?_
        exact kj46 _ hj
      · skip
        have h49 : ¬ had = F 27 := fun q => absurd ((hfo1 q).symm.trans c49) (by decide)
        have hj : (1 : Int32) = bI (decide (¬ had = F 27)) := by rw [decide_eq_true h49]; rfl
        refine j_iconst (v := 1) dX3_listOf_52 (by decide) ?_
        refine j_goto (tgt := 57) dX3_listOf_53 (by decide) ?_
        exact kj46 _ hj
  · skip
    refine j_iload_n dX3_listOf_31 rfl ?_
    refine j_aload_n dX3_listOf_32 rfl ?_
    refine j_get 27 dX3_listOf_33 (by first | rfl | assumption) in_X3 rfl (by decide) q1126 rfl ?_
    refine j_icmp_ne (tgt := 43) dX3_listOf_36 (by decide) (fun c36 => ?_) (fun c36 => ?_)
    · skip
      have h36 : ¬ had = F 27 := fun q => c36 (by rw [q])
      have hj : (had = F 27 → (-1 : Int32) = 0) ∧ (¬ had = F 27 → (-1 : Int32) = -1) := ⟨fun q => absurd q h36, fun _ => rfl⟩
      refine j_iconst (v := (-1)) dX3_listOf_43 (by decide) ?_
      exact kj31 _ hj
    · skip
      have h36 : had = F 27 := (nI_eq (by omega) (by omega)).mp c36
      have hj : (had = F 27 → (0 : Int32) = 0) ∧ (¬ had = F 27 → (0 : Int32) = -1) := ⟨fun _ => rfl, fun q => absurd h36 q⟩
      refine j_iconst (v := 0) dX3_listOf_39 (by decide) ?_
      refine j_goto (tgt := 44) dX3_listOf_40 (by decide) ?_
      exact kj31 _ hj
set_option maxHeartbeats 4000000 in
theorem m_list1 {l : Launch} {D : va_G} {dT : Nat → ClassId} {H0 : Heap} {r : Nat → Nat} {nx : Nat} {g : j_H} {kd bs fg m nk : Nat} {a : A4} {F : Nat → Nat} {tk : Int64} {V : Nat → Nat → Int32} (hD : okD kd bs m) (ha : okA m a) {ks : Nat → KY} (hks : mdKs (V 101) bs m nk ks) (hn8 : nk ≤ 8) (tg : Nat → Nat) (htg : ∀ i, i < F 27 → V 104 i = nI (tg i) ∧ tg i < m) (hn6 : F 27 ≤ 6) : MC (gG l D dT H0) yX3_list cX3_list 1 (some .int) 7 0 0 [.ref (r 100)] r (mdS r dT g (nI kd) bs fg m nk a.1 a.2.1 a.2.2.1 a.2.2.2 F tk V) nx (jq_m (lstN (fun n => (∃ b, stgA (fun k a => stk kd bs m (ks k) a) nk a tg (F 27) b n ∧ True) ∧ n < 999999)) r dT g (nI kd) bs fg m nk a F tk V nx) := by
  have hm := hD.pos
  have hm2 := hD.le
  have hm3 : 2 ≤ m := by have := hD.2.1; have := hD.2.2.2.1; omega
  have hkd := hD.1
  refine MC.ofJ [some (.ref (r 100))] rfl (Nat.le_of_ble_eq_true rfl) (by decide) ?_
  refine j_aload_n dX3_list_0 rfl ?_
  refine j_get 27 dX3_list_1 (by first | rfl | assumption) in_X3 rfl (by decide) q1126 rfl ?_
  refine j_if_ne (tgt := 9) dX3_list_4 (by decide) (fun c4 => ?_) (fun c4 => ?_)
  · skip
    refine j_aload_n dX3_list_9 rfl ?_
    refine j_callV (m_listOf hD ha hks hn8 tg htg hn6) jq_m.isR dX3_list_10 pmX3_listOf q1417 q1419 qs52 (by first | rfl | assumption) rfl rfl rfl ⟨Nat.le_of_ble_eq_true rfl, Nat.le_of_ble_eq_true rfl⟩ ⟨Nat.le_of_ble_eq_true rfl, Nat.le_of_ble_eq_true rfl⟩ rfl (Nat.le_of_ble_eq_true rfl) ?_
    rintro v9 r h9 nx ⟨e9, rfl, rfl, V9, rfl, hV9⟩
    cases e9
    show J _ _ _ _ _ _ _ _ _ _ _ _ (.int _ :: _)
    refine j_iret dX3_list_13 rfl rfl (Nat.le_refl _) (Nat.le_refl _) ?_
    exact jm_i rfl hV9
  · skip
    have hz : F 27 = 0 := (nI_eq (by omega) (by decide)).mp (show nI (F 27) = nI 0 from c4)
    have hans : (0 : Int32) = lstN (fun n => (∃ b, stgA (fun k a => stk kd bs m (ks k) a) nk a tg (F 27) b n ∧ True) ∧ n < 999999) := by
      rw [hz]
      exact (lstN_is (n := 0) ⟨⟨a, ⟨rfl, rfl⟩, trivial⟩, by decide⟩ (fun _ _ => Nat.zero_le _)).symm
    refine j_iconst (v := 0) dX3_list_7 (by decide) ?_
    refine j_iret dX3_list_8 rfl rfl (Nat.le_refl _) (Nat.le_refl _) ?_
    exact jm_i hans (fun _ _ => rfl)
set_option maxHeartbeats 4000000 in
theorem m_list0 {l : Launch} {D : va_G} {dT : Nat → ClassId} {H0 : Heap} {r : Nat → Nat} {nx : Nat} {g : j_H} {kI : Int32} {bs fg m nk w x s t : Nat} {F : Nat → Nat} {tk : Int64} {V : Nat → Nat → Int32} (hz : F 27 = 0) : MC (gG l D dT H0) yX3_list cX3_list 1 (some .int) 7 0 0 [.ref (r 100)] r (mdS r dT g kI bs fg m nk w x s t F tk V) nx (jq_i 0 r (mdS r dT g kI bs fg m nk w x s t F tk V) nx) := by
  refine MC.ofJ [some (.ref (r 100))] rfl (Nat.le_of_ble_eq_true rfl) (by decide) ?_
  refine j_aload_n dX3_list_0 rfl ?_
  refine j_get 27 dX3_list_1 (by first | rfl | assumption) in_X3 rfl (by decide) q1126 rfl ?_
  refine j_if_ne (tgt := 9) dX3_list_4 (by decide) (fun c4 => absurd (by rw [hz]; rfl) c4) (fun c4 => ?_)
  refine j_iconst (v := 0) dX3_list_7 (by decide) ?_
  refine j_iret dX3_list_8 rfl rfl (Nat.le_refl _) (Nat.le_refl _) ?_
  exact ⟨rfl, rfl, rfl, rfl⟩
