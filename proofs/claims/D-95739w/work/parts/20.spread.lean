set_option maxRecDepth 100000
/-- arrays V with some renewed -/
def vo (V : Nat → Nat → Int32) : List (Nat × (Nat → Int32)) → Nat → Nat → Int32
  | [] => V
  | (i, f) :: l => fun k => bif Nat.beq k i then f else vo V l k
def v_upd : List (Nat × (Nat → Int32)) → Nat → (Nat → Int32) → List (Nat × (Nat → Int32))
  | [], i, e => [(i, e)]
  | (j, x) :: l, i, e => bif Nat.beq j i then (i, e) :: l else (j, x) :: v_upd l i e
theorem vo_hd {V : Nat → Nat → Int32} {l : List (Nat × (Nat → Int32))} {i : Nat} {f : Nat → Int32} : vo V ((i, f) :: l) = va_up (vo V l) i f := by
  funext k
  by_cases hk : k = i
  · subst hk
    rw [va_up_self]
    show (bif Nat.beq k k then f else _) = _
    rw [j_beq_t rfl, cond_true]
  · rw [va_up_ne _ _ hk]
    show (bif Nat.beq k i then f else _) = _
    rw [j_beq_f hk, cond_false]
theorem va_comm {α : Type} {f : Nat → α} {i j : Nat} {a b : α} (h : i ≠ j) : va_up (va_up f i a) j b = va_up (va_up f j b) i a := by
  funext k
  by_cases hi : k = i
  · subst hi; rw [va_up_ne _ _ h, va_up_self, va_up_self]
  · by_cases hj : k = j
    · subst hj; rw [va_up_self, va_up_ne _ _ hi, va_up_self]
    · rw [va_up_ne _ _ hj, va_up_ne _ _ hi, va_up_ne _ _ hi, va_up_ne _ _ hj]
theorem vo_up {V : Nat → Nat → Int32} {i : Nat} {f : Nat → Int32} : ∀ l, va_up (vo V l) i f = vo V (v_upd l i f)
  | [] => vo_hd.symm
  | (j, x) :: l => by
    by_cases hj : j = i
    · subst hj
      rw [v_upd, j_beq_t rfl, cond_true, vo_hd, vo_hd, bx_uu]
    · rw [v_upd, j_beq_f hj, cond_false, vo_hd, vo_hd, ← vo_up l, va_comm hj]
theorem vo_same {V : Nat → Nat → Int32} : ∀ l : List (Nat × (Nat → Int32)), (∀ q, q ∈ l → q.2 = V q.1) → vo V l = V
  | [], _ => rfl
  | (i, f) :: l, h => by
    rw [vo_hd, vo_same l (fun q hq => h q (List.mem_cons_of_mem _ hq)), show f = V i from h (i, f) List.mem_cons_self, upsame]
def j_subL : List (Option Value) → List (Option Value) → Prop
  | [], [] => True
  | a :: l, b :: l' => (b = none ∨ b = a) ∧ j_subL l l'
  | _, _ => False
theorem j_subL_at : ∀ (l l' : List (Option Value)), j_subL l l' → ∀ (k : Nat) (v : Value), l'[k]? = some (some v) → l[k]? = some (some v)
  | [], [], _, k, v, h => h
  | a :: l, b :: l', h, 0, v, hk => by
    rw [List.getElem?_cons_zero] at hk ⊢
    rcases h.1 with q | q
    · rw [q] at hk; cases hk
    · rw [← q]; exact hk
  | a :: l, b :: l', h, k + 1, v, hk => by
    rw [List.getElem?_cons_succ] at hk ⊢
    exact j_subL_at l l' h.2 k v hk
  | [], _ :: _, h, _, _, _ => absurd h id
  | _ :: _, [], h, _, _, _ => absurd h id
section FKR2
variable {G : j_G} {cc : ByteArray} {own : String} {nL : Nat} {ret : Option FieldType} {nm : String} {R : Room} {xt : Code → Prop} {Q : j_Q} {mc ms cells slots : Nat} {r : Nat → Nat} {h : j_H} {nx pc : Nat} {L L' : List (Option Value)} {st : List Value} {dT : Nat → ClassId} {g : j_H} {F : Nat → Nat} {V : Nat → Nat → Int32} {i : Nat} {e : va_E} {l : List (Nat × (Nat → Int32))}
theorem j_fkW {f : Nat → Int32} (hi : i < 32) (he : fkG r dT F i f = some e) (k : J G (cc, own, nL, ret, nm, R, xt) Q mc ms cells slots r (fkS r dT g F (vo V (v_upd l i f))) nx pc L st) : J G (cc, own, nL, ret, nm, R, xt) Q mc ms cells slots r (j_set (fkS r dT g F (vo V l)) i e) nx pc L st := by
  rw [fkS_V hi he, vo_up]; exact k
theorem j_o1 (k : J G (cc, own, nL, ret, nm, R, xt) Q mc ms cells slots r (j_set h i e) nx pc L st) : J G (cc, own, nL, ret, nm, R, xt) Q mc ms cells slots r (j_ov h [(i, e)]) nx pc L st := k
/-- fewer locals -/
theorem j_less (hl : j_subL L L') (k : J G (cc, own, nL, ret, nm, R, xt) Q mc ms cells slots r h nx pc L' st) : J G (cc, own, nL, ret, nm, R, xt) Q mc ms cells slots r h nx pc L st := by
  intro p e s m args below meth c E H locs ls hH hlo hL
  exact k p e s m args below meth c E H locs ls hH hlo ⟨hL.1, hL.2.1, fun k v hk => hL.2.2 k v (j_subL_at L L' hl k v hk)⟩
end FKR2
theorem i8_small : ∀ k, k < 9 → vp_nar .byte (nI k).toInt8.toInt32 = nI k := by decide

set_option maxHeartbeats 4000000 in
theorem c_fill2 {l : Launch} {D : va_G} {dT : Nat → ClassId} {H0 : Heap} {r : Nat → Nat} {h : j_H} {nx : Nat} (i n : Nat) (v : Int32) (f : Nat → Int32) (hi : h i = some (.inl (dT 0, n, .inl f))) (hn : n < 2 ^ 31) : MC (gG l D dT H0) yJ6_fill_2 cJ6_fill_2 4 none 0 0 0 [.ref (r i), .int v] r h nx (jq_v r (j_ov h [(i, .inl (dT 0, n, .inl (fun j => if j < n then v else f j)))]) nx) := by
  refine MC.ofJ [some (.ref (r i)), some (.int v), none, none] rfl (Nat.le_of_ble_eq_true rfl) (by decide) ?_
  refine j_iconst (v := 0) dJ6_fill_2_0 (by decide) ?_
  refine j_istore_n dJ6_fill_2_1 (by decide) rfl ?_
  refine j_aload_n dJ6_fill_2_2 rfl ?_
  refine j_alen 0 dJ6_fill_2_3 (by first | rfl | assumption) rfl ?_
  refine j_istore_n dJ6_fill_2_4 (by decide) rfl ?_
  refine j_ov1 hi ?_
  refine j_lp2 (fun (k : Nat) (g : Nat → Int32) => j_ov h [(i, .inl (dT 0, n, .inl g))]) (fun k _ => [some (.ref (r i)), some (.int v), some (.int (nI k)), some (.int (nI n))]) (fun k g => k ≤ n ∧ ∀ j, g j = if j < k then v else f j) (fun k _ => n - k) ?_ 0 f ⟨Nat.zero_le _, fun j => by rw [if_neg (by omega)]⟩
  intro k g ⟨hk2, hg⟩ ih
  refine j_iload_n dJ6_fill_2_5 rfl ?_
  refine j_iload_n dJ6_fill_2_6 rfl ?_
  refine j_icmp_ge (tgt := 20) dJ6_fill_2_7 (by decide) (fun c7 => ?_) (fun c7 => ?_)
  · skip
    have hkb : k = n := by
      have := (nI_leI (by omega) (by omega)).mp c7
      omega
    subst hkb
    refine j_vret dJ6_fill_2_20 rfl (Nat.le_refl _) (Nat.le_refl _) ?_
    refine jr_v ?_
    congr
    funext j
    exact hg j
  · skip
    have hkb : k < n := Nat.lt_of_not_le (fun q => c7 (nI_le q (by omega)))
    refine j_aload_n dJ6_fill_2_10 rfl ?_
    refine j_iload_n dJ6_fill_2_11 rfl ?_
    refine j_iload_n dJ6_fill_2_12 rfl ?_
    refine j_iast 0 _ dJ6_fill_2_13 (by simp [j_ov]; rfl) rfl rfl hkb hn ?_
    refine j_ovs ?_
    refine j_iinc dJ6_fill_2_14 rfl (by decide) rfl ?_
    refine j_goto (tgt := 5) dJ6_fill_2_17 (by decide) ?_
    refine j_re (by rw [nI_inc]; rfl) rfl (by rw [j_upd, j_beq_t rfl]; rfl) (ih (k + 1) (upd g k v) ⟨by omega, fun j => ?_⟩ (by omega))
    by_cases hj : j = k
    · subst hj
      rw [pk_us, if_pos (by omega)]
    · rw [pk_un hj, hg j]
      by_cases hj2 : j < k
      · rw [if_pos hj2, if_pos (by omega)]
      · rw [if_neg hj2, if_neg (by omega)]
theorem bRep_start {m s0 : Nat} (hm : m ≤ 100) (hs : s0 < 8 * m * m) {a b c d e : Nat → Int32} :
    bRep m [(decA m s0, 0, decA m s0, 0)] (upd (fun j => if 0 ≤ j ∧ j < 8 * m * m then -1 else a j) s0 0) (upd b 0 (nI s0)) c d (upd (fun j => if j < 100 then -1 else e j) (sS m s0) (nI s0)) := by
  refine ⟨fun j q hj => ?_, fun s h1 h2 => ?_, fun j q hj => ?_, fun v hv => ?_⟩
  · have hz := (List.getElem?_eq_some_iff.mp hj).1
    simp at hz
    subst hz
    simp at hj
    subst hj
    show upd b 0 (nI s0) 0 = nI (encA m (decA m s0)) ∧ upd _ s0 0 (encA m (decA m s0)) = nI 0
    rw [encA_decA]
    exact ⟨pk_us, pk_us⟩
  · have hne : s ≠ s0 := by
      have := h2 _ (List.mem_singleton.mpr rfl)
      rw [show encA m (decA m s0, 0, decA m s0, 0).1 = s0 from encA_decA] at this
      exact fun q => this q.symm
    rw [pk_un hne, if_pos ⟨Nat.zero_le _, h1⟩]
  · simp at hj
  · by_cases hv2 : v = sS m s0
    · subst hv2
      rw [pk_us]
      unfold bFstC bFst
      have hb : ((decA m s0).2.2.1 == sS m s0) = true := by simp [decA]
      simp only [List.find?, hb]
      rw [encA_decA]
    · rw [pk_un hv2, if_pos (by omega)]
      unfold bFstC bFst
      have hb : ((decA m s0).2.2.1 == v) = false := by
        simp only [beq_eq_false_iff_ne, ne_eq]
        exact fun q => hv2 q.symm
      simp only [List.find?, hb]
def q_spread (r : Nat → Nat) (dT : Nat → ClassId) (g : j_H) (F : Nat → Nat) (V : Nat → Nat → Int32) (nx m K : Nat) (LF : List BE) : j_Q := fun o r' h' nx' => o = .returned none ∧ r' = r ∧ nx' = nx ∧ ∃ st rw' bf bk fs : Nat → Int32, h' = fkS r dT g F (vo V [(6, st), (7, rw'), (8, bf), (9, bk), (10, fs)]) ∧ bRep m LF st rw' bf bk fs ∧ bOK m K LF
theorem q_spread.isR {r : Nat → Nat} {dT : Nat → ClassId} {g : j_H} {F : Nat → Nat} {V : Nat → Nat → Int32} {nx m K : Nat} {LF : List BE} : j_isR (q_spread r dT g F V nx m K LF) := fun _ _ _ _ hq => ⟨_, hq.1⟩
set_option maxHeartbeats 4000000 in
theorem f_spread {l : Launch} {D : va_G} {dT : Nat → ClassId} {H0 : Heap} {r : Nat → Nat} {nx : Nat} {g : j_H} {F : Nat → Nat} {V : Nat → Nat → Int32} {nk : Nat} (h60 : g 60 = some (rcell (.ref (r 61)) (r 62) nk)) {kd bs fg m K : Nat} {ks : Nat → KY} (hK : fkK r dT g kd bs fg m K ks) (s0 : Nat) (hs : s0 < 8 * m * m) : MC (gG l D dT H0) yX0_spread cX0_spread 8 none 6 0 0 [.ref (r 0), .int (nI s0), .int (nI K)] r (fkS r dT g F V) nx (q_spread r dT g F V nx m K (bAll (fun k a => stk kd bs m (ks k) a) K (8 * m * m) (decA m s0))) := by
  obtain ⟨h61, hD, hkn, ka, h62, hks⟩ := id hK
  have hm := hD.pos
  have hm2 := hD.le
  have hmm := mm_le hm2
  have hs8 : s0 < 80000 := by omega
  have hsS : sS m s0 < m := Nat.mod_lt _ hm
  refine MC.ofJ [some (.ref (r 0)), some (.int (nI s0)), some (.int (nI K)), none, none, none, none, none] rfl (Nat.le_of_ble_eq_true rfl) (by decide) ?_
  refine j_re rfl rfl (h' := fkS r dT g F (vo V [(6, V 6), (7, V 7), (8, V 8), (9, V 9), (10, V 10)])) (by rw [vo_same _ (by simp)]) ?_
  refine j_aload_n dX0_spread_0 rfl ?_
  refine j_get 8 dX0_spread_1 (by first | rfl | assumption) in_X0 rfl (by decide) q161 rfl ?_
  refine j_iconst (v := 0) dX0_spread_4 (by decide) ?_
  refine j_aload_n dX0_spread_5 rfl ?_
  refine j_get 0 dX0_spread_6 (by first | rfl | assumption) in_X0 rfl (by decide) q153 rfl ?_
  refine j_getN 0 dX0_spread_9 (by first | rfl | assumption) in_X1 rfl (by decide) (fun _ hs => hs.1 _ qn104) rfl ?_
  refine j_callVi (c_states 61 kd bs fg m (by exact h61) hm hm2) dX0_spread_12 pmX6_states q928 q929 q930 (by first | rfl | assumption) rfl rfl rfl ⟨Nat.le_of_ble_eq_true rfl, Nat.le_of_ble_eq_true rfl⟩ ⟨Nat.le_of_ble_eq_true rfl, Nat.le_of_ble_eq_true rfl⟩ rfl (Nat.le_of_ble_eq_true rfl) ?_
  refine j_iconst (v := (-1)) dX0_spread_15 (by decide) ?_
  refine j_callSv (c_fill 6 80000 0 (8 * m * m) (-1) (V 6) (by exact rfl) (by omega) hmm (by decide)) dX0_spread_16 pmJ6_fill q932 q933 rfl ⟨Nat.le_of_ble_eq_true rfl, Nat.le_of_ble_eq_true rfl⟩ ⟨Nat.le_of_ble_eq_true rfl, Nat.le_of_ble_eq_true rfl⟩ rfl (Nat.le_of_ble_eq_true rfl) ?_
  refine j_o1 ?_
  refine j_fkW (f := (fun j => if 0 ≤ j ∧ j < 8 * m * m then -1 else V 6 j)) (by decide) rfl ?_
  refine j_aload_n dX0_spread_19 rfl ?_
  refine j_get 12 dX0_spread_20 (by first | rfl | assumption) in_X0 rfl (by decide) q165 rfl ?_
  refine j_iconst (v := (-1)) dX0_spread_23 (by decide) ?_
  refine j_callSv (c_fill2 10 100 (-1) (V 10) (by exact rfl) (by decide)) dX0_spread_24 pmJ6_fill_2 q938 q939 rfl ⟨Nat.le_of_ble_eq_true rfl, Nat.le_of_ble_eq_true rfl⟩ ⟨Nat.le_of_ble_eq_true rfl, Nat.le_of_ble_eq_true rfl⟩ rfl (Nat.le_of_ble_eq_true rfl) ?_
  refine j_o1 ?_
  refine j_fkW (f := (fun j => if j < 100 then -1 else V 10 j)) (by decide) rfl ?_
  refine j_aload_n dX0_spread_27 rfl ?_
  refine j_get 8 dX0_spread_28 (by first | rfl | assumption) in_X0 rfl (by decide) q161 rfl ?_
  refine j_iload_n dX0_spread_31 rfl ?_
  refine j_iconst (v := 0) dX0_spread_32 (by decide) ?_
  refine j_iast 0 _ dX0_spread_33 (by first | rfl | assumption) rfl rfl hs8 (by decide) ?_
  refine j_fkW (f := _) (by decide) rfl ?_
  refine j_aload_n dX0_spread_34 rfl ?_
  refine j_get 9 dX0_spread_35 (by first | rfl | assumption) in_X0 rfl (by decide) q162 rfl ?_
  refine j_iconst (v := 0) dX0_spread_38 (by decide) ?_
  refine j_iload_n dX0_spread_39 rfl ?_
  refine j_iast 0 0 dX0_spread_40 (by first | rfl | assumption) rfl rfl (by decide) (by decide) ?_
  refine j_fkW (f := _) (by decide) rfl ?_
  refine j_aload_n dX0_spread_41 rfl ?_
  refine j_get 12 dX0_spread_42 (by first | rfl | assumption) in_X0 rfl (by decide) q165 rfl ?_
  refine j_aload_n dX0_spread_45 rfl ?_
  refine j_iload_n dX0_spread_46 rfl ?_
  refine j_callVi (f_shown1 h60 h61 hm hm2 s0 hs8) dX0_spread_47 pmX0_shown q771 q773 qs14 (by first | rfl | assumption) rfl rfl rfl ⟨Nat.le_of_ble_eq_true rfl, Nat.le_of_ble_eq_true rfl⟩ ⟨Nat.le_of_ble_eq_true rfl, Nat.le_of_ble_eq_true rfl⟩ rfl (Nat.le_of_ble_eq_true rfl) ?_
  refine j_iload_n dX0_spread_50 rfl ?_
  refine j_iast 0 _ dX0_spread_51 (by first | rfl | assumption) rfl rfl (by show sS m s0 < 100; omega) (by decide) ?_
  refine j_fkW (f := _) (by decide) rfl ?_
  refine j_iconst (v := 1) dX0_spread_52 (by decide) ?_
  refine j_istore_n dX0_spread_53 (by decide) rfl ?_
  refine j_iconst (v := 0) dX0_spread_54 (by decide) ?_
  refine j_istore dX0_spread_55 (by decide) rfl ?_
  refine j_re (L' := [some (.ref (r 0)), some (.int (nI s0)), some (.int (nI K)), some (.int (nI 1)), some (.int (nI 0)), none, none, none]) rfl rfl rfl ?_
  refine j_lp7 (fun (i : Nat) (L : List BE) (st rw' bf bk fs : Nat → Int32) => fkS r dT g F (vo V [(6, st), (7, rw'), (8, bf), (9, bk), (10, fs)])) (fun i L _ _ _ _ _ => [some (.ref (r 0)), some (.int (nI s0)), some (.int (nI K)), some (.int (nI L.length)), some (.int (nI i)), none, none, none]) (fun i L st rw' bf bk fs => i ≤ L.length ∧ bOK m K L ∧ bRep m L st rw' bf bk fs ∧ bRun (fun k a => stk kd bs m (ks k) a) K (8 * m * m + 1 - i) i L = (bAll (fun k a => stk kd bs m (ks k) a) K (8 * m * m) (decA m s0))) (fun i _ _ _ _ _ _ => 8 * m * m + 1 - i) ?_ 0 [(decA m s0, 0, decA m s0, 0)] _ _ _ _ _ ⟨Nat.zero_le _, bOK.start (decA_ok hm hs), bRep_start hm2 hs, rfl⟩
  intro i L st rw' bf bk fs ⟨hiL, hO, hR, hrun⟩ ih
  have hLl := hO.len
  refine j_iload dX0_spread_57 rfl ?_
  refine j_iload_n dX0_spread_59 rfl ?_
  refine j_icmp_ge (tgt := 209) dX0_spread_60 (by decide) (fun c60 => ?_) (fun c60 => ?_)
  · skip
    have hil : L.length ≤ i := (nI_leI (by omega) (by omega)).mp c60
    rw [bRun_end hil] at hrun
    refine j_vret dX0_spread_209 rfl (Nat.le_refl _) (Nat.le_refl _) ?_
    exact ⟨rfl, rfl, rfl, st, rw', bf, bk, fs, rfl, hrun ▸ hR, hrun ▸ hO⟩
  · skip
    have hil : i < L.length := Nat.lt_of_not_le (fun q => c60 (nI_le q (by omega)))
    obtain ⟨e, he⟩ : ∃ e, L[i]? = some e := ⟨_, List.getElem?_eq_getElem hil⟩
    rw [show 8 * m * m + 1 - i = (8 * m * m - i) + 1 by omega, bRun_step he] at hrun
    refine j_aload_n dX0_spread_63 rfl ?_
    refine j_get 9 dX0_spread_64 (by first | rfl | assumption) in_X0 rfl (by decide) q162 rfl ?_
    refine j_iload dX0_spread_67 rfl ?_
    refine j_iald 0 i dX0_spread_69 (by first | rfl | assumption) rfl rfl (by show i < 80000; omega) (by decide) ?_
    refine j_eqi (show _ = nI (encA m e.1) from (hR.1 i e he).1) ?_
    refine j_istore dX0_spread_70 (by decide) rfl ?_
    refine j_iconst (v := 0) dX0_spread_72 (by decide) ?_
    refine j_istore dX0_spread_73 (by decide) rfl ?_
    refine j_less (L' := [some (.ref (r 0)), some (.int (nI s0)), some (.int (nI K)), some (.int (nI L.length)), some (.int (nI i)), some (.int (nI (encA m e.1))), some (.int (nI 0)), none]) ⟨Or.inr rfl, Or.inr rfl, Or.inr rfl, Or.inr rfl, Or.inr rfl, Or.inr rfl, Or.inr rfl, Or.inl rfl, trivial⟩ ?_
    refine j_lp7 (fun (k : Nat) (L : List BE) (st rw' bf bk fs : Nat → Int32) => fkS r dT g F (vo V [(6, st), (7, rw'), (8, bf), (9, bk), (10, fs)])) (fun k L _ _ _ _ _ => [some (.ref (r 0)), some (.int (nI s0)), some (.int (nI K)), some (.int (nI L.length)), some (.int (nI i)), some (.int (nI (encA m e.1))), some (.int (nI k)), none]) (fun k L st rw' bf bk fs => k ≤ K ∧ L[i]? = some e ∧ bOK m K L ∧ bRep m L st rw' bf bk fs ∧ bRun (fun k a => stk kd bs m (ks k) a) K (8 * m * m - i) (i + 1) (bKeys (fun k a => stk kd bs m (ks k) a) e (K - k) k L) = (bAll (fun k a => stk kd bs m (ks k) a) K (8 * m * m) (decA m s0))) (fun k _ _ _ _ _ _ => K - k) ?_ 0 L st rw' bf bk fs ⟨Nat.zero_le _, he, hO, hR, hrun⟩
    clear hLl hiL hil he hR hO hrun
    intro k L st rw' bf bk fs ⟨hkK, he, hO, hR, hrun⟩ ih2
    have hLl := hO.len
    have hil : i < L.length := (List.getElem?_eq_some_iff.mp he).1
    have hoe := hO.2.1 e (List.mem_of_getElem? he)
    have hel := encA_lt hoe
    refine j_iload dX0_spread_75 rfl ?_
    refine j_iload_n dX0_spread_77 rfl ?_
    refine j_icmp_ge (tgt := 203) dX0_spread_78 (by decide) (fun c78 => ?_) (fun c78 => ?_)
    · skip
      have hkk : k = K := by
        have := (nI_leI (by omega) (by omega)).mp c78
        omega
      subst hkk
      rw [Nat.sub_self] at hrun
      refine j_iinc dX0_spread_203 rfl (by decide) rfl ?_
      refine j_goto (tgt := 57) dX0_spread_206 (by decide) ?_
      refine j_less (L' := [some (.ref (r 0)), some (.int (nI s0)), some (.int (nI k)), some (.int (nI L.length)), some (.int (nI (i + 1))), none, none, none]) ⟨Or.inr rfl, Or.inr rfl, Or.inr rfl, Or.inr rfl, Or.inr (by rw [← nI_inc]), Or.inl rfl, Or.inl rfl, Or.inl rfl, trivial⟩ ?_
      exact ih (i + 1) L st rw' bf bk fs ⟨by omega, hO, hR, by rw [show 8 * m * m + 1 - (i + 1) = 8 * m * m - i by omega]; exact hrun⟩ (by omega)
    · skip
      have hkK2 : k < K := Nat.lt_of_not_le (fun q => c78 (nI_le q (by omega)))
      have hox : okA m (stk kd bs m (ks k) e.1) := stk_ok hD (hks k hkK2).2.2 hoe
      have hxl := encA_lt hox
      refine j_aload_n dX0_spread_81 rfl ?_
      refine j_get 0 dX0_spread_82 (by first | rfl | assumption) in_X0 rfl (by decide) q153 rfl ?_
      refine j_getN 1 dX0_spread_85 (by first | rfl | assumption) in_X1 rfl (by decide) (fun _ hs => hs.1 _ qn107) rfl ?_
      refine j_iload dX0_spread_88 rfl ?_
      refine j_aald (w := .ref (r (k + 63))) 4 k dX0_spread_90 (by first | rfl | assumption) rfl rfl rfl (by omega) (by decide) (by rw [(hks _ hkK2).1]; rfl) ?_
      refine j_iload dX0_spread_91 rfl ?_
      refine j_strike (i := 61) (q := ks k) dX0_spread_93 (by exact (hks k hkK2).2.1) (by exact h61) hD (hks k hkK2).2.2 hel ⟨Nat.le_of_ble_eq_true rfl, Nat.le_of_ble_eq_true rfl, Nat.le_of_ble_eq_true rfl, Nat.le_of_ble_eq_true rfl⟩ (Nat.le_of_ble_eq_true rfl) ?_
      refine j_eqi (show _ = nI (encA m (stk kd bs m (ks k) e.1)) by unfold strk; rw [decA_encA hoe]) ?_
      refine j_istore dX0_spread_96 (by decide) rfl ?_
      refine j_aload_n dX0_spread_98 rfl ?_
      refine j_get 8 dX0_spread_99 (by first | rfl | assumption) in_X0 rfl (by decide) q161 rfl ?_
      refine j_iload dX0_spread_102 rfl ?_
      refine j_iald 0 (encA m (stk kd bs m (ks k) e.1)) dX0_spread_104 (by first | rfl | assumption) rfl rfl (by show encA m (stk kd bs m (ks k) e.1) < 80000; omega) (by decide) ?_
      refine j_iconst (v := (-1)) dX0_spread_105 (by decide) ?_
      refine j_icmp_ne (tgt := 197) dX0_spread_106 (by decide) (fun c106 => ?_) (fun c106 => ?_)
      · skip
        refine j_iinc dX0_spread_197 rfl (by decide) rfl ?_
        have hin : ∃ q, q ∈ L ∧ q.1 = stk kd bs m (ks k) e.1 := by
          refine Classical.byContradiction (fun hno => c106 (hR.2.1 _ hxl (fun q hq hc => hno ⟨q, hq, encA_inj (hO.2.1 q hq) hox hc⟩)))
        refine j_goto (tgt := 75) dX0_spread_200 (by decide) ?_
        refine j_less (L' := [some (.ref (r 0)), some (.int (nI s0)), some (.int (nI K)), some (.int (nI L.length)), some (.int (nI i)), some (.int (nI (encA m e.1))), some (.int (nI (k + 1))), none]) ⟨Or.inr rfl, Or.inr rfl, Or.inr rfl, Or.inr rfl, Or.inr rfl, Or.inr rfl, Or.inr (by rw [← nI_inc]), Or.inl rfl, trivial⟩ ?_
        refine ih2 (k + 1) L st rw' bf bk fs ⟨by omega, he, hO, hR, ?_⟩ (by omega)
        rw [← hrun, show K - k = (K - (k + 1)) + 1 by omega, bKeys]
        unfold bAdd
        rw [if_pos (any_has.mpr hin)]
      · skip
        have hno9 : ∀ q, q ∈ L → q.1 ≠ stk kd bs m (ks k) e.1 := by
          intro q hq hc
          obtain ⟨j, hj⟩ := List.getElem?_of_mem hq
          have h1 := (hR.1 j q hj).2
          rw [hc] at h1
          have h2 := hO.2.2.1 j q hj
          have h3 := (List.getElem?_eq_some_iff.mp hj).1
          have h4 := congrArg Int32.toInt (h1.symm.trans c106)
          rw [nI_toInt (by omega), show (-1 : Int32).toInt = -1 by decide] at h4
          omega
        refine j_aload_n dX0_spread_109 rfl ?_
        refine j_get 8 dX0_spread_110 (by first | rfl | assumption) in_X0 rfl (by decide) q161 rfl ?_
        refine j_iload dX0_spread_113 rfl ?_
        refine j_aload_n dX0_spread_115 rfl ?_
        refine j_get 8 dX0_spread_116 (by first | rfl | assumption) in_X0 rfl (by decide) q161 rfl ?_
        refine j_iload dX0_spread_119 rfl ?_
        refine j_iald 0 (encA m e.1) dX0_spread_121 (by first | rfl | assumption) rfl rfl (by show encA m e.1 < 80000; omega) (by decide) ?_
        refine j_iconst (v := 1) dX0_spread_122 (by decide) ?_
        refine j_iadd dX0_spread_123 ?_
        refine j_iast 0 (encA m (stk kd bs m (ks k) e.1)) dX0_spread_124 (by first | rfl | assumption) rfl rfl (by show encA m (stk kd bs m (ks k) e.1) < 80000; omega) (by decide) ?_
        refine j_fkW (f := _) (by decide) rfl ?_
        refine j_aload_n dX0_spread_125 rfl ?_
        refine j_get 10 dX0_spread_126 (by first | rfl | assumption) in_X0 rfl (by decide) q163 rfl ?_
        refine j_iload dX0_spread_129 rfl ?_
        refine j_iload dX0_spread_131 rfl ?_
        refine j_iast 0 (encA m (stk kd bs m (ks k) e.1)) dX0_spread_133 (by first | rfl | assumption) rfl rfl (by show encA m (stk kd bs m (ks k) e.1) < 80000; omega) (by decide) ?_
        refine j_fkW (f := _) (by decide) rfl ?_
        refine j_aload_n dX0_spread_134 rfl ?_
        refine j_get 11 dX0_spread_135 (by first | rfl | assumption) in_X0 rfl (by decide) q164 rfl ?_
        refine j_iload dX0_spread_138 rfl ?_
        refine j_iload dX0_spread_140 rfl ?_
        refine j_i2b dX0_spread_142 ?_
        refine j_bast 1 (encA m (stk kd bs m (ks k) e.1)) dX0_spread_143 (by first | rfl | assumption) rfl rfl (by show encA m (stk kd bs m (ks k) e.1) < 80000; omega) (by decide) ?_
        refine j_fkW (f := _) (by decide) rfl ?_
        refine j_aload_n dX0_spread_144 rfl ?_
        refine j_get 9 dX0_spread_145 (by first | rfl | assumption) in_X0 rfl (by decide) q162 rfl ?_
        refine j_iload_n dX0_spread_148 rfl ?_
        refine j_iload dX0_spread_149 rfl ?_
        refine j_iast 0 L.length dX0_spread_151 (by first | rfl | assumption) rfl rfl (by show L.length < 80000; have hO3 := (hO.push he hox (fun q hq hc => hno9 q hq hc) hkK2).len; rw [List.length_append, List.length_singleton] at hO3; omega) (by decide) ?_
        refine j_fkW (f := _) (by decide) rfl ?_
        refine j_iinc dX0_spread_152 rfl (by decide) rfl ?_
        refine j_aload_n dX0_spread_155 rfl ?_
        refine j_get 12 dX0_spread_156 (by first | rfl | assumption) in_X0 rfl (by decide) q165 rfl ?_
        refine j_aload_n dX0_spread_159 rfl ?_
        refine j_iload dX0_spread_160 rfl ?_
        refine j_callVi (f_shown1 h60 h61 hm hm2 (encA m (stk kd bs m (ks k) e.1)) (by omega)) dX0_spread_162 pmX0_shown q771 q773 qs14 (by first | rfl | assumption) rfl rfl rfl ⟨Nat.le_of_ble_eq_true rfl, Nat.le_of_ble_eq_true rfl⟩ ⟨Nat.le_of_ble_eq_true rfl, Nat.le_of_ble_eq_true rfl⟩ rfl (Nat.le_of_ble_eq_true rfl) ?_
        refine j_eqi (show _ = nI (stk kd bs m (ks k) e.1).2.2.1 from congrArg nI (by show sS m (enc m (stk kd bs m (ks k) e.1).1 (stk kd bs m (ks k) e.1).2.1 (stk kd bs m (ks k) e.1).2.2.1 (stk kd bs m (ks k) e.1).2.2.2) = _; exact sS_enc hox.2.2.1 hox.2.2.2)) ?_
        refine j_join (tgt := 196) (fun v => v = if fs (stk kd bs m (ks k) e.1).2.2.1 = -1 then nI (encA m (stk kd bs m (ks k) e.1)) else fs (stk kd bs m (ks k) e.1).2.2.1) (fun v165 hv165 => ?_) (fun kj165 => ?_)
        · skip
          refine j_iast 0 (stk kd bs m (ks k) e.1).2.2.1 dX0_spread_196 (by first | rfl | assumption) rfl rfl (by have := hox.2.2.1; show (stk kd bs m (ks k) e.1).2.2.1 < 100; omega) (by decide) ?_
          refine j_fkW (f := _) (by decide) rfl ?_
          refine j_iinc dX0_spread_197 rfl (by decide) rfl ?_
          have hno : ∀ q, q ∈ L → q.1 ≠ stk kd bs m (ks k) e.1 := by
            intro q hq hc
            obtain ⟨j, hj⟩ := List.getElem?_of_mem hq
            have h1 := (hR.1 j q hj).2
            rw [hc] at h1
            have h2 := hO.2.2.1 j q hj
            have h3 := (List.getElem?_eq_some_iff.mp hj).1
            have h4 := congrArg Int32.toInt (h1.symm.trans c106)
            rw [nI_toInt (by omega), show (-1 : Int32).toInt = -1 by decide] at h4
            omega
          refine j_goto (tgt := 75) dX0_spread_200 (by decide) ?_
          have hst : st (encA m e.1) = nI e.2.1 := (hR.1 i e he).2
          refine j_less (L' := [some (.ref (r 0)), some (.int (nI s0)), some (.int (nI K)), some (.int (nI (L ++ [(stk kd bs m (ks k) e.1, e.2.1 + 1, e.1, k)]).length)), some (.int (nI i)), some (.int (nI (encA m e.1))), some (.int (nI (k + 1))), none]) ⟨Or.inr rfl, Or.inr rfl, Or.inr rfl, Or.inr (by rw [List.length_append, List.length_singleton, ← nI_inc]), Or.inr rfl, Or.inr rfl, Or.inr (by rw [← nI_inc]), Or.inl rfl, trivial⟩ ?_
          subst hv165
          refine j_re rfl rfl ?_ (ih2 (k + 1) _ _ _ _ _ _ ⟨by omega, ?_, hO.push he hox hno hkK2, hR.push (k := k) hm2 hO he hox hno, ?_⟩ (by omega))
          · show fkS r dT g F (vo V [(6, upd st (encA m (stk kd bs m (ks k) e.1)) (st (encA m e.1) + 1)), (7, upd rw' L.length (nI (encA m (stk kd bs m (ks k) e.1)))), (8, upd bf (encA m (stk kd bs m (ks k) e.1)) (nI (encA m e.1))), (9, upd bk (encA m (stk kd bs m (ks k) e.1)) (vp_nar .byte (nI k).toInt8.toInt32)), (10, upd fs (stk kd bs m (ks k) e.1).2.2.1 _)]) = _
            rw [hst, nI_1, i8_small k (by omega)]
          · rw [List.getElem?_append_left hil]
            exact he
          · rw [← hrun, show K - k = (K - (k + 1)) + 1 by omega, bKeys]
            unfold bAdd
            rw [if_neg (fun hc => by obtain ⟨q, hq, hq2⟩ := any_has.mp hc; exact hno q hq hq2)]
        · skip
          refine j_aload_n dX0_spread_165 rfl ?_
          refine j_get 12 dX0_spread_166 (by first | rfl | assumption) in_X0 rfl (by decide) q165 rfl ?_
          refine j_aload_n dX0_spread_169 rfl ?_
          refine j_iload dX0_spread_170 rfl ?_
          refine j_callVi (f_shown1 h60 h61 hm hm2 (encA m (stk kd bs m (ks k) e.1)) (by omega)) dX0_spread_172 pmX0_shown q771 q773 qs14 (by first | rfl | assumption) rfl rfl rfl ⟨Nat.le_of_ble_eq_true rfl, Nat.le_of_ble_eq_true rfl⟩ ⟨Nat.le_of_ble_eq_true rfl, Nat.le_of_ble_eq_true rfl⟩ rfl (Nat.le_of_ble_eq_true rfl) ?_
          refine j_eqi (show _ = nI (stk kd bs m (ks k) e.1).2.2.1 from congrArg nI (by show sS m (enc m (stk kd bs m (ks k) e.1).1 (stk kd bs m (ks k) e.1).2.1 (stk kd bs m (ks k) e.1).2.2.1 (stk kd bs m (ks k) e.1).2.2.2) = _; exact sS_enc hox.2.2.1 hox.2.2.2)) ?_
          refine j_iald 0 (stk kd bs m (ks k) e.1).2.2.1 dX0_spread_175 (by first | rfl | assumption) rfl rfl (by have := hox.2.2.1; show (stk kd bs m (ks k) e.1).2.2.1 < 100; omega) (by decide) ?_
          refine j_iconst (v := (-1)) dX0_spread_176 (by decide) ?_
          refine j_icmp_ne (tgt := 185) dX0_spread_177 (by decide) (fun c177 => ?_) (fun c177 => ?_)
          · skip
            refine j_aload_n dX0_spread_185 rfl ?_
            refine j_get 12 dX0_spread_186 (by first | rfl | assumption) in_X0 rfl (by decide) q165 rfl ?_
            refine j_aload_n dX0_spread_189 rfl ?_
            refine j_iload dX0_spread_190 rfl ?_
            refine j_callVi (f_shown1 h60 h61 hm hm2 (encA m (stk kd bs m (ks k) e.1)) (by omega)) dX0_spread_192 pmX0_shown q771 q773 qs14 (by first | rfl | assumption) rfl rfl rfl ⟨Nat.le_of_ble_eq_true rfl, Nat.le_of_ble_eq_true rfl⟩ ⟨Nat.le_of_ble_eq_true rfl, Nat.le_of_ble_eq_true rfl⟩ rfl (Nat.le_of_ble_eq_true rfl) ?_
            refine j_eqi (show _ = nI (stk kd bs m (ks k) e.1).2.2.1 from congrArg nI (by show sS m (enc m (stk kd bs m (ks k) e.1).1 (stk kd bs m (ks k) e.1).2.1 (stk kd bs m (ks k) e.1).2.2.1 (stk kd bs m (ks k) e.1).2.2.2) = _; exact sS_enc hox.2.2.1 hox.2.2.2)) ?_
            refine j_iald 0 (stk kd bs m (ks k) e.1).2.2.1 dX0_spread_195 (by first | rfl | assumption) rfl rfl (by have := hox.2.2.1; show (stk kd bs m (ks k) e.1).2.2.1 < 100; omega) (by decide) ?_
            exact kj165 _ (by first | exact (if_pos c177).symm | exact (if_neg c177).symm)
          · skip
            refine j_iload dX0_spread_180 rfl ?_
            refine j_goto (tgt := 196) dX0_spread_182 (by decide) ?_
            exact kj165 _ (by first | exact (if_pos c177).symm | exact (if_neg c177).symm)
