set_option maxRecDepth 100000
theorem fkS_g {r : Nat → Nat} {dT : Nat → ClassId} {g : j_H} {F : Nat → Nat} {V : Nat → Nat → Int32} {i : Nat} {e : va_E} (hi : 32 ≤ i) : j_set (fkS r dT g F V) i e = fkS r dT (j_set g i e) F V := by
  funext k
  by_cases hk : k = i
  · subst hk
    rw [j_set_self, fkS_hi hi, j_set_self]
  · rw [j_set_ne hk]
    unfold fkS
    by_cases h32 : k < 32
    · rw [blt_t h32, cond_true, cond_true]
    · rw [blt_f h32, cond_false, cond_false, j_set_ne hk]
theorem fkS_gs {r : Nat → Nat} {dT : Nat → ClassId} {g : j_H} {F : Nat → Nat} {V : Nat → Nat → Int32} {i : Nat} {e : va_E} (hi : 32 ≤ i) : fkS r dT (j_set g i e) F V i = some e := by
  rw [fkS_hi hi, j_set_self]
theorem j_set2 {h : j_H} {i : Nat} {e e' : va_E} : j_set (j_set h i e) i e' = j_set h i e' := by
  funext k
  by_cases hk : k = i
  · subst hk; rw [j_set_self, j_set_self]
  · rw [j_set_ne hk, j_set_ne hk, j_set_ne hk]
theorem nI_sub {a b : Nat} (h : b ≤ a) : nI a - nI b = nI (a - b) := by
  have e : nI a = nI (a - b) + nI b := by rw [nI_add, Nat.sub_add_cancel h]
  rw [e, Int32.add_sub_cancel]
section MOR
variable {G : j_G} {cc : ByteArray} {own : String} {nL : Nat} {ret : Option FieldType} {nm : String} {R : Room} {xt : Code → Prop} {Q : j_Q} {mc ms cells slots : Nat} {r : Nat → Nat} {nx pc : Nat} {L : List (Option Value)} {st : List Value} {dT : Nat → ClassId} {g : j_H} {F : Nat → Nat} {V : Nat → Nat → Int32} {i : Nat} {e e' : va_E}
theorem j_fkg (hi : 32 ≤ i) (k : J G (cc, own, nL, ret, nm, R, xt) Q mc ms cells slots r (fkS r dT (j_set g i e) F V) nx pc L st) : J G (cc, own, nL, ret, nm, R, xt) Q mc ms cells slots r (j_set (fkS r dT g F V) i e) nx pc L st := by
  rw [fkS_g hi]; exact k
theorem j_fkgo (hi : 32 ≤ i) (k : J G (cc, own, nL, ret, nm, R, xt) Q mc ms cells slots r (fkS r dT (j_set g i e') F V) nx pc L st) : J G (cc, own, nL, ret, nm, R, xt) Q mc ms cells slots r (j_ov (fkS r dT (j_set g i e) F V) [(i, e')]) nx pc L st := by
  show J G (cc, own, nL, ret, nm, R, xt) Q mc ms cells slots r (j_set (fkS r dT (j_set g i e) F V) i e') nx pc L st
  rw [fkS_g hi, j_set2]; exact k
end MOR
/-- the key that may be laid: the figures, plus, less, times, is -/
def cnd (bs c : Nat) : KY := if c < bs then (0, 1, c, 0) else if c < bs + 3 then (c - bs + 1, 1, 0, 0) else (4, 1, 0, 0)
def jq_n (i : Nat) (r : Nat → Nat) (h : j_H) (nx : Nat) : j_Q := fun o r' h' nx' => o = .returned (some (.ref (r i))) ∧ r' = r ∧ h' = h ∧ nx' = nx
theorem jq_n.isR {i : Nat} {r : Nat → Nat} {h : j_H} {nx : Nat} : j_isR (jq_n i r h nx) := fun _ _ _ _ hq => ⟨_, hq.1⟩
set_option maxHeartbeats 4000000 in
theorem f_candidate {l : Launch} {D : va_G} {dT : Nat → ClassId} {H0 : Heap} {r : Nat → Nat} {nx : Nat} {g : j_H} {F : Nat → Nat} {V : Nat → Nat → Int32} {nk : Nat} (h60 : g 60 = some (rcell (.ref (r 61)) (r 62) nk)) {kd bs fg m : Nat} {ks : Nat → KY} (hK : fkK r dT g kd bs fg m nk ks) (c : Nat) (hc : c < bs + 4) (hrn : r (nk + 63) = nx) : MC (gG l D dT H0) yX0_candidate cX0_candidate 4 (some (.object "FewKeys$Key")) 3 1 3 [.ref (r 0), .int (nI c)] r (fkS r dT g F V) nx (jq_n (nk + 63) r (fkS r dT (j_set g (nk + 63) (kcell (r 61) (cnd bs c))) F V) (nx + 1)) := by
  obtain ⟨h61, hD, hkn, ka, h62, hks⟩ := id hK
  have hm := hD.pos
  have hm2 := hD.le
  have hmm := mm_le hm2
  have hbs := hD.2.2.1
  refine MC.ofJ [some (.ref (r 0)), some (.int (nI c)), none, none] rfl (Nat.le_of_ble_eq_true rfl) (by decide) ?_
  refine j_aload_n dX0_candidate_0 rfl ?_
  refine j_get 0 dX0_candidate_1 (by first | rfl | assumption) in_X0 rfl (by decide) q153 rfl ?_
  refine j_getN 0 dX0_candidate_4 (by first | rfl | assumption) in_X1 rfl (by decide) (fun _ hs => hs.1 _ qn104) rfl ?_
  refine j_astore_n dX0_candidate_7 (by decide) rfl ?_
  refine j_aload_n dX0_candidate_8 rfl ?_
  refine j_getN 1 dX0_candidate_9 (by first | rfl | assumption) in_X6 rfl (by decide) (fun _ hs => hs.1 _ qn556) rfl ?_
  refine j_istore_n dX0_candidate_12 (by decide) rfl ?_
  refine j_iload_n dX0_candidate_13 rfl ?_
  refine j_iload_n dX0_candidate_14 rfl ?_
  refine j_icmp_ge (tgt := 31) dX0_candidate_15 (by decide) (fun c15 => ?_) (fun c15 => ?_)
  · skip
    have c15 : ¬ c < bs := fun q => c15 |> fun z => absurd ((nI_leI (by omega) (by omega)).mp z) (by omega)
    refine j_iload_n dX0_candidate_31 rfl ?_
    refine j_iload_n dX0_candidate_32 rfl ?_
    refine j_iconst (v := 3) dX0_candidate_33 (by decide) ?_
    refine j_iadd dX0_candidate_34 ?_
    refine j_eqi (show _ = nI (bs + 3) from nI_add bs 3) ?_
    refine j_icmp_ge (tgt := 55) dX0_candidate_35 (by decide) (fun c35 => ?_) (fun c35 => ?_)
    · skip
      have c35 : ¬ c < bs + 3 := fun q => absurd ((nI_leI (by omega) (by omega)).mp c35) (by omega)
      refine j_new (ci := 9) (fs := [.null, .int 0]) (nk + 63) hrn dX0_candidate_55 in_X9 tyX9_ok rfl q995 q682 q82 (fun j hj => by
          have hj3 : j = 0 ∨ j = 1 := by have hj4 : j < 2 := hj; omega
          rcases hj3 with rfl | rfl <;> rfl) (Nat.le_of_ble_eq_true rfl) (Nat.le_of_ble_eq_true rfl) ?_
      refine j_fkg (by omega) ?_
      refine j_dup dX0_candidate_58 rfl ?_
      refine j_aload_n dX0_candidate_59 rfl ?_
      refine j_iconst (v := 1) dX0_candidate_60 (by decide) ?_
      refine j_callIv (c_iIs (nk + 63) (r 61) 1 (by exact fkS_gs (by omega))) dX0_candidate_61 pmX9_init q996 q684 rfl rfl ⟨Nat.le_of_ble_eq_true rfl, Nat.le_of_ble_eq_true rfl⟩ ⟨Nat.le_of_ble_eq_true rfl, Nat.le_of_ble_eq_true rfl⟩ rfl (Nat.le_of_ble_eq_true rfl) ?_
      refine j_fkgo (by omega) ?_
      refine j_aret dX0_candidate_64 rfl (Or.inl ⟨_, rfl⟩) (Or.inr ⟨_, rfl⟩) (Nat.le_of_ble_eq_true rfl) (Nat.le_of_ble_eq_true rfl) ?_
      have e9 : kcell (r 61) (cnd bs c) = .inr (9, [.ref (r 61), .int 1]) := by
        unfold cnd; rw [if_neg c15, if_neg c35]; rfl
      rw [e9]
      exact ⟨rfl, rfl, rfl, rfl⟩
    · skip
      have c35 : c < bs + 3 := Nat.lt_of_not_le (fun q => c35 (nI_le q (by omega)))
      refine j_new (ci := 13) (fs := [.null, .int 0, .int 0]) (nk + 63) hrn dX0_candidate_38 in_X13 tyX13_ok rfl q993 q740 q86 (fun j hj => by
          have hj3 : j = 0 ∨ j = 1 ∨ j = 2 := by have hj4 : j < 3 := hj; omega
          rcases hj3 with rfl | rfl | rfl <;> rfl) (Nat.le_of_ble_eq_true rfl) (Nat.le_of_ble_eq_true rfl) ?_
      refine j_fkg (by omega) ?_
      refine j_dup dX0_candidate_41 rfl ?_
      refine j_aload_n dX0_candidate_42 rfl ?_
      refine j_iload_n dX0_candidate_43 rfl ?_
      refine j_iload_n dX0_candidate_44 rfl ?_
      refine j_isub dX0_candidate_45 ?_
      refine j_iconst (v := 1) dX0_candidate_46 (by decide) ?_
      refine j_iadd dX0_candidate_47 ?_
      refine j_eqi (show _ = nI (c - bs + 1) by rw [nI_sub (by omega)]; exact nI_1 _) ?_
      refine j_iconst (v := 1) dX0_candidate_48 (by decide) ?_
      refine j_callIv (c_iSign (nk + 63) (r 61) 1 (nI (c - bs + 1)) (by exact fkS_gs (by omega))) dX0_candidate_49 pmX13_init q994 q742 rfl rfl ⟨Nat.le_of_ble_eq_true rfl, Nat.le_of_ble_eq_true rfl⟩ ⟨Nat.le_of_ble_eq_true rfl, Nat.le_of_ble_eq_true rfl⟩ rfl (Nat.le_of_ble_eq_true rfl) ?_
      refine j_fkgo (by omega) ?_
      refine j_goto (tgt := 64) dX0_candidate_52 (by decide) ?_
      refine j_aret dX0_candidate_64 rfl (Or.inl ⟨_, rfl⟩) (Or.inr ⟨_, rfl⟩) (Nat.le_of_ble_eq_true rfl) (Nat.le_of_ble_eq_true rfl) ?_
      have e9 : kcell (r 61) (cnd bs c) = .inr (13, [.ref (r 61), .int 1, .int (nI (c - bs + 1))]) := by
        unfold cnd; rw [if_neg c15, if_pos c35]
        unfold kcell
        simp only []
        rw [if_neg (by omega), if_neg (by omega), if_neg (by omega), if_neg (by omega), if_neg (by omega)]
        rfl
      rw [e9]
      exact ⟨rfl, rfl, rfl, rfl⟩
  · skip
    have c15 : c < bs := Nat.lt_of_not_le (fun q => c15 (nI_le q (by omega)))
    refine j_new (ci := 8) (fs := [.null, .int 0, .int 0]) (nk + 63) hrn dX0_candidate_18 in_X8 tyX8_ok rfl q991 q648 q81 (fun j hj => by
        have hj3 : j = 0 ∨ j = 1 ∨ j = 2 := by have hj4 : j < 3 := hj; omega
        rcases hj3 with rfl | rfl | rfl <;> rfl) (Nat.le_of_ble_eq_true rfl) (Nat.le_of_ble_eq_true rfl) ?_
    refine j_fkg (by omega) ?_
    refine j_dup dX0_candidate_21 rfl ?_
    refine j_aload_n dX0_candidate_22 rfl ?_
    refine j_iload_n dX0_candidate_23 rfl ?_
    refine j_iconst (v := 1) dX0_candidate_24 (by decide) ?_
    refine j_callIv (c_iFigure (nk + 63) (r 61) 1 (nI c) (by exact fkS_gs (by omega))) dX0_candidate_25 pmX8_init q992 q654 rfl rfl ⟨Nat.le_of_ble_eq_true rfl, Nat.le_of_ble_eq_true rfl⟩ ⟨Nat.le_of_ble_eq_true rfl, Nat.le_of_ble_eq_true rfl⟩ rfl (Nat.le_of_ble_eq_true rfl) ?_
    refine j_fkgo (by omega) ?_
    refine j_goto (tgt := 64) dX0_candidate_28 (by decide) ?_
    refine j_aret dX0_candidate_64 rfl (Or.inl ⟨_, rfl⟩) (Or.inr ⟨_, rfl⟩) (Nat.le_of_ble_eq_true rfl) (Nat.le_of_ble_eq_true rfl) ?_
    have e9 : kcell (r 61) (cnd bs c) = .inr (8, [.ref (r 61), .int 1, .int (nI c)]) := by
      unfold cnd; rw [if_pos c15]; rfl
    rw [e9]
    exact ⟨rfl, rfl, rfl, rfl⟩
theorem as_of {C T : String} {s : State} (h : va_Nw (.castable C T) s) {comp c0 : ClassId} (h1 : s.vm.findClass T = some comp) (h2 : s.vm.findClass C = some c0) : s.vm.assignable c0 comp = true := by
  obtain ⟨c, t, f1, f2, f3⟩ := Cond.castable_spec (va_Nw.use (A := #[]) rfl h)
  rw [f1] at h2
  rw [f2] at h1
  cases h1
  cases h2
  exact f3
/-- a key is laid into the keys' array -/
theorem j_kst {l : Launch} {D : va_G} {dT : Nat → ClassId} {H0 : Heap} {cc : ByteArray} {own : String} {nL : Nat} {ret : Option FieldType} {nm : String} {R : Room} {xt : Code → Prop} {Q : j_Q} {mc ms cells slots : Nat} {r : Nat → Nat} {h : j_H} {nx pc : Nat} {L : List (Option Value)} {st : List Value} {i ik a j n : Nat} {q : KY} {ka : Nat → Option Nat} {x0 : Int32} (hd : decode cc pc = .ok (.aastore, 1)) (hi : h i = some (.inl (dT 4, n, .inr (.inr (.inr (.inr ka)))))) (hx0 : x0 = nI j) (hj : j < n) (hn : n < 2 ^ 31) (hk : h ik = some (kcell a q)) (kk : J (gG l D dT H0) (cc, own, nL, ret, nm, R, xt) Q mc ms cells slots r (j_set h i (.inl (dT 4, n, .inr (.inr (.inr (.inr (va_up ka j (some (r ik))))))))) nx (pc + 1) L st) : J (gG l D dT H0) (cc, own, nL, ret, nm, R, xt) Q mc ms cells slots r h nx pc L (.ref (r ik) :: .int x0 :: .ref (r i) :: st) := by
  unfold kcell at hk
  split at hk
  · exact j_aast 4 j hd hi rfl hx0 hj hn hk rfl (fun s comp c0 hs h1 h2 => as_of (hs.2.1.1 _ qn1511) h1 h2) kk
  · split at hk
    · exact j_aast 4 j hd hi rfl hx0 hj hn hk rfl (fun s comp c0 hs h1 h2 => as_of (hs.2.1.1 _ qn1515) h1 h2) kk
    · split at hk
      · exact j_aast 4 j hd hi rfl hx0 hj hn hk rfl (fun s comp c0 hs h1 h2 => as_of (hs.2.1.1 _ qn1512) h1 h2) kk
      · split at hk
        · exact j_aast 4 j hd hi rfl hx0 hj hn hk rfl (fun s comp c0 hs h1 h2 => as_of (hs.2.1.1 _ qn1513) h1 h2) kk
        · split at hk
          · exact j_aast 4 j hd hi rfl hx0 hj hn hk rfl (fun s comp c0 hs h1 h2 => as_of (hs.2.1.1 _ qn1514) h1 h2) kk
          · exact j_aast 4 j hd hi rfl hx0 hj hn hk rfl (fun s comp c0 hs h1 h2 => as_of (hs.2.1.1 _ qn1516) h1 h2) kk
def j_del (g : j_H) (i : Nat) : j_H := fun k => if k = i then none else g k
theorem j_del_ne {g : j_H} {i k : Nat} (h : k ≠ i) : j_del g i k = g k := if_neg h
theorem fkK.re {r r' : Nat → Nat} {dT : Nat → ClassId} {g g' : j_H} {kd bs fg m nk : Nat} {ks : Nat → KY} (h : fkK r dT g kd bs fg m nk ks) (hr : ∀ k, k ≠ nk + 63 → r' k = r k) (hg : ∀ k, k ≠ nk + 63 → g' k = g k) : fkK r' dT g' kd bs fg m nk ks := by
  obtain ⟨h1, h2, h3, ka, h4, h5⟩ := h
  refine ⟨by rw [hg 61 (by omega)]; exact h1, h2, h3, ka, by rw [hg 62 (by omega)]; exact h4, fun k hk => ?_⟩
  rw [hr (k + 63) (by omega), hg (k + 63) (by omega), hr 61 (by omega)]
  exact h5 k hk
theorem fkK.add {r : Nat → Nat} {dT : Nat → ClassId} {g : j_H} {kd bs fg m nk : Nat} {ks : Nat → KY} {q : KY} {ka : Nat → Option Nat} (h : fkK r dT g kd bs fg m nk ks) (ha : g 62 = some (.inl (dT 4, 9, .inr (.inr (.inr (.inr ka)))))) (hn : nk ≤ 8) (hq : okK bs m q) : fkK r dT (j_set (j_set g (nk + 63) (kcell (r 61) q)) 62 (.inl (dT 4, 9, .inr (.inr (.inr (.inr (va_up ka nk (some (r (nk + 63)))))))))) kd bs fg m (nk + 1) (va_up ks nk q) := by
  obtain ⟨h1, h2, h3, kb, h4, h5⟩ := h
  rw [ha] at h4
  cases h4
  refine ⟨by rw [j_set_ne (by omega), j_set_ne (by omega)]; exact h1, h2, by omega, _, j_set_self, fun k hk => ?_⟩
  by_cases he : k = nk
  · subst he
    rw [va_up_self, va_up_self, j_set_ne (by omega), j_set_self]
    exact ⟨rfl, rfl, hq⟩
  · rw [va_up_ne _ _ he, va_up_ne _ _ he, j_set_ne (by omega), j_set_ne (by omega)]
    exact h5 k (by omega)
theorem fkK.cg {r : Nat → Nat} {dT : Nat → ClassId} {g : j_H} {kd bs fg m nk : Nat} {ks ks' : Nat → KY} (h : fkK r dT g kd bs fg m nk ks) (he : ∀ k, k < nk → ks' k = ks k) : fkK r dT g kd bs fg m nk ks' := by
  obtain ⟨h1, h2, h3, kb, h4, h5⟩ := h
  exact ⟨h1, h2, h3, kb, h4, fun k hk => by rw [he k hk]; exact h5 k hk⟩
theorem cnd_ok {bs m c : Nat} : okK bs m (cnd bs c) := by
  unfold cnd
  split
  · rename_i h
    refine ⟨Nat.le_of_ble_eq_true rfl, Nat.le_of_ble_eq_true rfl, fun _ => h, fun q => absurd (show (0 : Nat) = 7 from q) (by decide), fun q => absurd (show (0 : Nat) = 6 from q) (by decide)⟩
  · split
    · rename_i h1 h2
      refine ⟨?_, Nat.le_of_ble_eq_true rfl, fun q => ?_, fun q => ?_, fun q => ?_⟩
      · show c - bs + 1 ≤ 7; omega
      · have q : c - bs + 1 = 0 := q; omega
      · have q : c - bs + 1 = 7 := q; omega
      · have q : c - bs + 1 = 6 := q; omega
    · exact ⟨by decide, by decide, fun q => absurd q (by decide), fun q => absurd q (by decide), fun q => absurd q (by decide)⟩
/-- the first of the least sums, and it -/
def mrG (S : Nat → Int32) : Nat → Nat × Int32
  | 0 => (0, 999999)
  | c + 1 => if S c < (mrG S c).2 then (c, S c) else mrG S c
theorem mr_t {S : Nat → Int32} {c : Nat} (h : S c < (mrG S c).2) : nI c = nI (mrG S (c + 1)).1 := by rw [mrG, if_pos h]
theorem mr_f {S : Nat → Int32} {c : Nat} (h : ¬ S c < (mrG S c).2) : nI (mrG S c).1 = nI (mrG S (c + 1)).1 := by rw [mrG, if_neg h]
theorem mr_m {S : Nat → Int32} {c : Nat} : (if S c < (mrG S c).2 then S c else (mrG S c).2) = (mrG S (c + 1)).2 := by
  rw [mrG]
  split <;> rfl
theorem mrG_lt {S : Nat → Int32} {n : Nat} : (mrG S n).1 ≤ n - 1 := by
  induction n with
  | zero => exact Nat.le_refl _
  | succ n ih =>
    rw [mrG]
    split
    · show n ≤ n + 1 - 1; omega
    · omega
def q_more (v : Int32) (r : Nat → Nat) (dT : Nat → ClassId) (g : j_H) (F : Nat → Nat) (V : Nat → Nat → Int32) (kd bs fg m nk : Nat) (ks : Nat → KY) : j_Q := fun o r' h' _ => o = .returned (some (.int v)) ∧ ∃ (g' : j_H) (V' : Nat → Nat → Int32), h' = fkS r' dT g' F V' ∧ (∀ k, k ≠ nk + 63 → r' k = r k) ∧ (∀ k, k ≠ 62 → k ≠ nk + 63 → g' k = g k) ∧ fkK r' dT g' kd bs fg m nk ks ∧ ∀ k, ¬ isSc k → V' k = V k
theorem q_more.isR {v : Int32} {r : Nat → Nat} {dT : Nat → ClassId} {g : j_H} {F : Nat → Nat} {V : Nat → Nat → Int32} {kd bs fg m nk : Nat} {ks : Nat → KY} : j_isR (q_more v r dT g F V kd bs fg m nk ks) := fun _ _ _ _ hq => ⟨_, hq.1⟩
set_option maxHeartbeats 4000000 in
theorem f_more1 {l : Launch} {D : va_G} {dT : Nat → ClassId} {H0 : Heap} {r : Nat → Nat} {nx : Nat} {g : j_H} {F : Nat → Nat} {V : Nat → Nat → Int32} {nk : Nat} (h60 : g 60 = some (rcell (.ref (r 61)) (r 62) nk)) {kd bs fg m : Nat} {ks : Nat → KY} (hK : fkK r dT g kd bs fg m nk ks) (hnk : nk ≤ 8) (w : Int32) (hw : 0 ≤ w ∧ w ≤ 2) (tg : Nat → Nat) (htg : ∀ i, i < F 2 → V 2 i = nI (tg i) ∧ tg i < m) (hn6 : F 2 ≤ 6) (hs : F 0 < 8 * m * m) : MC (gG l D dT H0) yX0_more cX0_more 6 (some .int) 9 15 45 [.ref (r 0), .int w] r (fkS r dT g F V) nx (q_more (if w = 0 then nI (cnd bs (mrG (fun c => smT (bN (bAll (fun k a => stk kd bs m (va_up ks nk (cnd bs c) k) a) (nk + 1) (8 * m * m) (decA m (F 0)))) tg (F 2)) (bs + 4)).1).1 else if w = 1 then kNum (cnd bs (mrG (fun c => smT (bN (bAll (fun k a => stk kd bs m (va_up ks nk (cnd bs c) k) a) (nk + 1) (8 * m * m) (decA m (F 0)))) tg (F 2)) (bs + 4)).1) else (mrG (fun c => smT (bN (bAll (fun k a => stk kd bs m (va_up ks nk (cnd bs c) k) a) (nk + 1) (8 * m * m) (decA m (F 0)))) tg (F 2)) (bs + 4)).2) r dT g F V kd bs fg m nk ks) := by
  obtain ⟨h61, hD, hkn, ka, h62, hks⟩ := id hK
  have hm := hD.pos
  have hm2 := hD.le
  have hmm := mm_le hm2
  have hbs := hD.2.2.1
  obtain ⟨S, hS⟩ : ∃ S : Nat → Int32, S = (fun c => smT (bN (bAll (fun k a => stk kd bs m (va_up ks nk (cnd bs c) k) a) (nk + 1) (8 * m * m) (decA m (F 0)))) tg (F 2)) := ⟨_, rfl⟩
  rw [← hS]
  refine MC.ofJ [some (.ref (r 0)), some (.int w), none, none, none, none] rfl (Nat.le_of_ble_eq_true rfl) (by decide) ?_
  refine j_iload_n dX0_more_0 rfl ?_
  refine j_iconst (v := 0) dX0_more_1 (by decide) ?_
  refine j_iconst (v := 2) dX0_more_2 (by decide) ?_
  refine j_callSi (c_X0_isIn _ _ _) dX0_more_3 pmX0_isIn q220 q221 rfl ⟨Nat.le_of_ble_eq_true rfl, Nat.le_of_ble_eq_true rfl⟩ ⟨Nat.le_of_ble_eq_true rfl, Nat.le_of_ble_eq_true rfl⟩ rfl (Nat.le_of_ble_eq_true rfl) ?_
  refine j_ifb_ne (tgt := 12) dX0_more_6 (by decide) (fun c6 => ?_) (fun c6 => absurd hw c6)
  refine j_aload_n dX0_more_12 rfl ?_
  refine j_callVi (f_isNone1 h60) dX0_more_13 pmX0_isNone q759 q761 qs13 (by first | rfl | assumption) rfl rfl rfl ⟨Nat.le_of_ble_eq_true rfl, Nat.le_of_ble_eq_true rfl⟩ ⟨Nat.le_of_ble_eq_true rfl, Nat.le_of_ble_eq_true rfl⟩ rfl (Nat.le_of_ble_eq_true rfl) ?_
  refine j_if_eq (tgt := 22) dX0_more_16 (by decide) (fun c16 => ?_) (fun c16 => absurd rfl c16)
  refine j_iconst (v := 0) dX0_more_22 (by decide) ?_
  refine j_istore_n dX0_more_23 (by decide) rfl ?_
  refine j_ldc dX0_more_24 q957 ?_
  refine j_istore_n dX0_more_26 (by decide) rfl ?_
  refine j_iconst (v := 0) dX0_more_27 (by decide) ?_
  refine j_istore dX0_more_28 (by decide) rfl ?_
  refine j_less (L' := [some (.ref (r 0)), some (.int w), some (.int (nI (mrG S 0).1)), some (.int (mrG S 0).2), some (.int (nI 0)), none]) ⟨Or.inr rfl, Or.inr rfl, Or.inr rfl, Or.inr rfl, Or.inr rfl, Or.inl rfl, trivial⟩ ?_
  refine j_lpX (A := Nat × (Nat → Nat) × j_H × (Nat → Nat → Int32) × Nat) (fun a => ((a.1, 3 * a.1), a.2.1, fkS a.2.1 dT a.2.2.1 F a.2.2.2.1, a.2.2.2.2, [some (.ref (a.2.1 0)), some (.int w), some (.int (nI (mrG S a.1).1)), some (.int (mrG S a.1).2), some (.int (nI a.1)), none])) (fun a => a.1 ≤ bs + 4 ∧ (∀ k, k ≠ nk + 63 → a.2.1 k = r k) ∧ (∀ k, k ≠ 62 → k ≠ nk + 63 → a.2.2.1 k = g k) ∧ fkK a.2.1 dT a.2.2.1 kd bs fg m nk ks ∧ ∀ k, ¬ isSc k → a.2.2.2.1 k = V k) (fun a => bs + 4 - a.1) ?_ (0, r, g, V, nx) ⟨Nat.zero_le _, fun _ _ => rfl, fun _ _ _ => rfl, hK, fun _ _ => rfl⟩
  clear h61 hks h62 ka hK
  rintro ⟨c, r1, g1, V1, nx1⟩ ⟨hc, hr1, hg1, hK, hV1⟩ ih
  dsimp only at hc hr1 hg1 hK hV1 ih ⊢
  obtain ⟨h61, -, -, ka, h62, hks⟩ := id hK
  have h60 : g1 60 = some (rcell (.ref (r1 61)) (r1 62) nk) := by rw [hg1 60 (by omega) (by omega), hr1 61 (by omega), hr1 62 (by omega)]; exact h60
  refine j_iload dX0_more_30 rfl ?_
  refine j_aload_n dX0_more_32 rfl ?_
  refine j_get 0 dX0_more_33 (by first | rfl | assumption) in_X0 rfl (by decide) q153 rfl ?_
  refine j_getN 0 dX0_more_36 (by first | rfl | assumption) in_X1 rfl (by decide) (fun _ hs => hs.1 _ qn104) rfl ?_
  refine j_getN 1 dX0_more_39 (by first | rfl | assumption) in_X6 rfl (by decide) (fun _ hs => hs.1 _ qn556) rfl ?_
  refine j_iconst (v := 4) dX0_more_42 (by decide) ?_
  refine j_iadd dX0_more_43 ?_
  refine j_eqi (show _ = nI (bs + 4) from nI_add bs 4) ?_
  refine j_icmp_ge (tgt := 109) dX0_more_44 (by decide) (fun c44 => ?_) (fun c44 => ?_)
  · skip
    have hce : c = bs + 4 := by
      have := (nI_leI (by omega) (by omega)).mp c44
      omega
    have hbl := mrG_lt (S := S) (n := c)
    clear ih
    refine j_reH (r' := va_up r1 (nk + 63) nx1) (h' := fkS (va_up r1 (nk + 63) nx1) dT (j_del g1 (nk + 63)) F V1) (fun H hH => fkS_re (fun k hk => va_up_ne _ _ (by omega)) (fun i e hi he => by
      by_cases hin : i = nk + 63
      · rw [hin] at he; unfold j_del at he; rw [if_pos rfl] at he; cases he
      · rw [j_del_ne hin] at he; exact ⟨he, va_up_ne _ _ hin⟩) hH) ?_
    have hr2 : ∀ k, k ≠ nk + 63 → va_up r1 (nk + 63) nx1 k = r k := fun k hk => (va_up_ne _ _ hk).trans (hr1 k hk)
    have hrn : va_up r1 (nk + 63) nx1 (nk + 63) = nx1 := va_up_self _ _ _
    have hK2 : fkK (va_up r1 (nk + 63) nx1) dT (j_del g1 (nk + 63)) kd bs fg m nk ks := hK.re (fun k hk => va_up_ne _ _ hk) (fun k hk => j_del_ne hk)
    have hg2 : ∀ k, k ≠ 62 → k ≠ nk + 63 → j_del g1 (nk + 63) k = g k := fun k h1 h2 => (j_del_ne h2).trans (hg1 k h1 h2)
    have h602 : j_del g1 (nk + 63) 60 = some (rcell (.ref (va_up r1 (nk + 63) nx1 61)) (va_up r1 (nk + 63) nx1 62) nk) := by rw [j_del_ne (by omega), va_up_ne _ _ (by omega), va_up_ne _ _ (by omega)]; exact h60
    refine j_re (L' := [some (.ref (va_up r1 (nk + 63) nx1 0)), some (.int w), some (.int (nI (mrG S c).1)), some (.int (mrG S c).2), some (.int (nI c)), none]) (by rw [va_up_ne r1 nx1 (show (0 : Nat) ≠ nk + 63 by omega)]) rfl rfl ?_
    clear h60 h61 h62 hks ka hK
    generalize va_up r1 (nk + 63) nx1 = r2 at *
    generalize j_del g1 (nk + 63) = g2 at *
    obtain ⟨h61, -, -, ka, h62, hks⟩ := id hK2
    refine j_aload_n dX0_more_109 rfl ?_
    refine j_iload_n dX0_more_110 rfl ?_
    refine j_callV (f_candidate (V := V1) (g := g2) h602 hK2 (mrG S c).1 (by omega) hrn) jq_n.isR dX0_more_111 pmX0_candidate q987 q989 qs21 (by first | rfl | assumption) rfl rfl rfl ⟨Nat.le_of_ble_eq_true rfl, Nat.le_of_ble_eq_true rfl⟩ ⟨(by show c + 1 ≤ 15; omega), (by show 3 * c + 3 ≤ 45; omega)⟩ rfl (Nat.le_of_ble_eq_true rfl) ?_
    rintro v9 r2 h9 nx2 ⟨e9, rfl, rfl, rfl⟩
    cases e9
    show J _ _ _ _ _ _ _ _ _ _ _ _ (.ref _ :: _)
    refine j_astore dX0_more_114 (by decide) rfl ?_
    refine j_iload_n dX0_more_116 rfl ?_
    refine j_if_ne (tgt := 128) dX0_more_117 (by decide) (fun c117 => ?_) (fun c117 => ?_)
    · skip
      refine j_iload_n dX0_more_128 rfl ?_
      refine j_iconst (v := 1) dX0_more_129 (by decide) ?_
      refine j_icmp_ne (tgt := 141) dX0_more_130 (by decide) (fun c130 => ?_) (fun c130 => ?_)
      · skip
        refine j_iload_n dX0_more_141 rfl ?_
        refine j_iret dX0_more_142 rfl rfl (by show c + 1 ≤ 15; omega) (by show 3 * c + 3 ≤ 45; omega) ?_
        subst hce
        refine ⟨?_, _, V1, rfl, hr2, (fun k h1 h2 => (j_set_ne h2).trans (hg2 k h1 h2)), hK2.re (fun _ _ => rfl) (fun k hk => j_set_ne hk), hV1⟩
        first
          | rw [if_pos c117]
          | rw [if_neg c117, if_pos c130]
          | rw [if_neg c117, if_neg c130]
      · skip
        refine j_aload dX0_more_133 rfl ?_
        refine j_number (i := 61) (ik := nk + 63) (q := cnd bs (mrG S c).1) dX0_more_135 (by exact fkS_gs (by omega)) ⟨Nat.le_of_ble_eq_true rfl, Nat.le_of_ble_eq_true rfl, (by show c + 1 ≤ 15; omega), (by show 3 * c + 3 ≤ 45; omega)⟩ (Nat.le_of_ble_eq_true rfl) ?_
        refine j_goto (tgt := 142) dX0_more_138 (by decide) ?_
        refine j_iret dX0_more_142 rfl rfl (by show c + 1 ≤ 15; omega) (by show 3 * c + 3 ≤ 45; omega) ?_
        subst hce
        refine ⟨?_, _, V1, rfl, hr2, (fun k h1 h2 => (j_set_ne h2).trans (hg2 k h1 h2)), hK2.re (fun _ _ => rfl) (fun k hk => j_set_ne hk), hV1⟩
        first
          | rw [if_pos c117]
          | rw [if_neg c117, if_pos c130]
          | rw [if_neg c117, if_neg c130]
    · skip
      refine j_aload dX0_more_120 rfl ?_
      refine j_kind (i := 61) (ik := nk + 63) (q := cnd bs (mrG S c).1) dX0_more_122 (by exact fkS_gs (by omega)) ⟨Nat.le_of_ble_eq_true rfl, Nat.le_of_ble_eq_true rfl, (by show c + 1 ≤ 15; omega), (by show 3 * c + 3 ≤ 45; omega)⟩ (Nat.le_of_ble_eq_true rfl) ?_
      refine j_goto (tgt := 142) dX0_more_125 (by decide) ?_
      refine j_iret dX0_more_142 rfl rfl (by show c + 1 ≤ 15; omega) (by show 3 * c + 3 ≤ 45; omega) ?_
      subst hce
      refine ⟨?_, _, V1, rfl, hr2, (fun k h1 h2 => (j_set_ne h2).trans (hg2 k h1 h2)), hK2.re (fun _ _ => rfl) (fun k hk => j_set_ne hk), hV1⟩
      first
        | rw [if_pos c117]
        | rw [if_neg c117, if_pos c130]
        | rw [if_neg c117, if_neg c130]
  · skip
    have hcl : c < bs + 4 := Nat.lt_of_not_le (fun q => c44 (nI_le q (by omega)))
    refine j_reH (r' := va_up r1 (nk + 63) nx1) (h' := fkS (va_up r1 (nk + 63) nx1) dT (j_del g1 (nk + 63)) F V1) (fun H hH => fkS_re (fun k hk => va_up_ne _ _ (by omega)) (fun i e hi he => by
      by_cases hin : i = nk + 63
      · rw [hin] at he; unfold j_del at he; rw [if_pos rfl] at he; cases he
      · rw [j_del_ne hin] at he; exact ⟨he, va_up_ne _ _ hin⟩) hH) ?_
    have hr2 : ∀ k, k ≠ nk + 63 → va_up r1 (nk + 63) nx1 k = r k := fun k hk => (va_up_ne _ _ hk).trans (hr1 k hk)
    have hrn : va_up r1 (nk + 63) nx1 (nk + 63) = nx1 := va_up_self _ _ _
    have hK2 : fkK (va_up r1 (nk + 63) nx1) dT (j_del g1 (nk + 63)) kd bs fg m nk ks := hK.re (fun k hk => va_up_ne _ _ hk) (fun k hk => j_del_ne hk)
    have hg2 : ∀ k, k ≠ 62 → k ≠ nk + 63 → j_del g1 (nk + 63) k = g k := fun k h1 h2 => (j_del_ne h2).trans (hg1 k h1 h2)
    have h602 : j_del g1 (nk + 63) 60 = some (rcell (.ref (va_up r1 (nk + 63) nx1 61)) (va_up r1 (nk + 63) nx1 62) nk) := by rw [j_del_ne (by omega), va_up_ne _ _ (by omega), va_up_ne _ _ (by omega)]; exact h60
    refine j_re (L' := [some (.ref (va_up r1 (nk + 63) nx1 0)), some (.int w), some (.int (nI (mrG S c).1)), some (.int (mrG S c).2), some (.int (nI c)), none]) (by rw [va_up_ne r1 nx1 (show (0 : Nat) ≠ nk + 63 by omega)]) rfl rfl ?_
    clear h60 h61 h62 hks ka hK
    generalize va_up r1 (nk + 63) nx1 = r2 at *
    generalize j_del g1 (nk + 63) = g2 at *
    obtain ⟨h61, -, -, ka, h62, hks⟩ := id hK2
    refine j_aload_n dX0_more_47 rfl ?_
    refine j_get 0 dX0_more_48 (by first | rfl | assumption) in_X0 rfl (by decide) q153 rfl ?_
    refine j_getN 1 dX0_more_51 (by first | rfl | assumption) in_X1 rfl (by decide) (fun _ hs => hs.1 _ qn107) rfl ?_
    refine j_aload_n dX0_more_54 rfl ?_
    refine j_get 0 dX0_more_55 (by first | rfl | assumption) in_X0 rfl (by decide) q153 rfl ?_
    refine j_getN 2 dX0_more_58 (by first | rfl | assumption) in_X1 rfl (by decide) (fun _ hs => hs.1 _ qn109) rfl ?_
    refine j_aload_n dX0_more_61 rfl ?_
    refine j_iload dX0_more_62 rfl ?_
    refine j_callV (f_candidate (V := V1) (g := g2) h602 hK2 c (by omega) hrn) jq_n.isR dX0_more_64 pmX0_candidate q987 q989 qs21 (by first | rfl | assumption) rfl rfl rfl ⟨Nat.le_of_ble_eq_true rfl, Nat.le_of_ble_eq_true rfl⟩ ⟨(by show c + 1 ≤ 15; omega), (by show 3 * c + 3 ≤ 45; omega)⟩ rfl (Nat.le_of_ble_eq_true rfl) ?_
    rintro v9 r2 h9 nx2 ⟨e9, rfl, rfl, rfl⟩
    cases e9
    show J _ _ _ _ _ _ _ _ _ _ _ _ (.ref _ :: _)
    refine j_kst (ik := nk + 63) (j := nk) (i := 62) (n := 9) dX0_more_67 (by rw [fkS_hi (by decide), j_set_ne (by omega)]; exact h62) rfl (by omega) (by decide) (by exact fkS_gs (by omega)) ?_
    refine j_fkg (by decide) ?_
    have hK3 := hK2.add h62 hnk (cnd_ok (bs := bs) (m := m) (c := c))
    generalize hg3 : j_set (j_set g2 (nk + 63) (kcell (r2 61) (cnd bs c))) 62 _ = g3 at hK3 ⊢
    have hg3a : ∀ k, k ≠ 62 → k ≠ nk + 63 → g3 k = g k := fun k h1 h2 => by rw [← hg3, j_set_ne h1, j_set_ne h2]; exact hg2 k h1 h2
    have h603 : g3 60 = some (rcell (.ref (r2 61)) (r2 62) nk) := by rw [← hg3, j_set_ne (by decide), j_set_ne (by omega)]; exact h602
    refine j_aload_n dX0_more_68 rfl ?_
    refine j_aload_n dX0_more_69 rfl ?_
    refine j_get 0 dX0_more_70 (by first | rfl | assumption) in_X0 rfl (by decide) q153 rfl ?_
    refine j_getN 2 dX0_more_73 (by first | rfl | assumption) in_X1 rfl (by decide) (fun _ hs => hs.1 _ qn109) rfl ?_
    refine j_iconst (v := 1) dX0_more_76 (by decide) ?_
    refine j_iadd dX0_more_77 ?_
    refine j_eqi (nI_1 nk) ?_
    refine j_callV (f_sumWith (V := V1) (K := nk + 1) h603 hK3 tg (fun i hi => by rw [hV1 2 (by unfold isSc; omega)]; exact htg i hi) hn6 hs) jq_s.isR dX0_more_78 pmX0_sumWith q997 q999 qs22 (by first | rfl | assumption) rfl rfl rfl ⟨Nat.le_of_ble_eq_true rfl, Nat.le_of_ble_eq_true rfl⟩ ⟨(by show c + 1 ≤ 15; omega), (by show 3 * c + 3 ≤ 45; omega)⟩ rfl (Nat.le_of_ble_eq_true rfl) ?_
    rintro v9 r2 h9 nx2 ⟨e9, rfl, rfl, V2, rfl, hV2⟩
    cases e9
    refine j_eqi (show _ = S c by rw [hS]) ?_
    refine j_istore dX0_more_81 (by decide) rfl ?_
    refine j_join (tgt := 95) (fun z => z = nI (mrG S (c + 1)).1) (fun v83 hv83 => ?_) (fun kj83 => ?_)
    · skip
      subst hv83
      refine j_istore_n dX0_more_95 (by decide) rfl ?_
      refine j_iload_n dX0_more_96 rfl ?_
      refine j_iload dX0_more_97 rfl ?_
      refine j_min dX0_more_99 q961 ⟨Nat.le_of_ble_eq_true rfl, Nat.le_of_ble_eq_true rfl, (by show c + 1 ≤ 15; omega), (by show 3 * c + 3 ≤ 45; omega)⟩ ?_
      refine j_eqi (mr_m (S := S) (c := c)) ?_
      refine j_istore_n dX0_more_102 (by decide) rfl ?_
      refine j_iinc dX0_more_103 rfl (by decide) rfl ?_
      refine j_goto (tgt := 30) dX0_more_106 (by decide) ?_
      refine j_less (L' := [some (.ref (r2 0)), some (.int w), some (.int (nI (mrG S (c + 1)).1)), some (.int (mrG S (c + 1)).2), some (.int (nI (c + 1))), none]) ⟨Or.inr rfl, Or.inr rfl, Or.inr rfl, Or.inr rfl, Or.inr (by rw [← nI_inc]), Or.inl rfl, trivial⟩ ?_
      exact ih (c + 1, r2, g3, V2, nx1 + 1) ⟨by show c + 1 ≤ bs + 4; omega, hr2, hg3a, (hK3.less (Nat.le_succ _)).cg (fun k hk => (va_up_ne _ _ (by omega)).symm), fun k hk => (hV2 k hk).trans (hV1 k hk)⟩ (by show bs + 4 - (c + 1) < bs + 4 - c; omega)
    · skip
      refine j_iload dX0_more_83 rfl ?_
      refine j_iload_n dX0_more_85 rfl ?_
      refine j_icmp_ge (tgt := 94) dX0_more_86 (by decide) (fun c86 => ?_) (fun c86 => ?_)
      · skip
        have c86 : ¬ S c < (mrG S c).2 := Int32.not_lt.mpr c86
        have hj86 := mr_f c86
        refine j_iload_n dX0_more_94 rfl ?_
        exact kj83 _ hj86
      · skip
        have c86 : S c < (mrG S c).2 := Int32.not_le.mp c86
        have hj86 := mr_t c86
        refine j_iload dX0_more_89 rfl ?_
        refine j_goto (tgt := 95) dX0_more_91 (by decide) ?_
        exact kj83 _ hj86
set_option maxHeartbeats 4000000 in
theorem f_moreo {l : Launch} {D : va_G} {dT : Nat → ClassId} {H0 : Heap} {r : Nat → Nat} {nx : Nat} {g : j_H} {F : Nat → Nat} {V : Nat → Nat → Int32} (w : Int32) (hw : ¬ (0 ≤ w ∧ w ≤ 2)) : MC (gG l D dT H0) yX0_more cX0_more 6 (some .int) 9 0 0 [.ref (r 0), .int w] r (fkS r dT g F V) nx (jq_i (-1000000002) r (fkS r dT g F V) nx) := by
  refine MC.ofJ [some (.ref (r 0)), some (.int w), none, none, none, none] rfl (Nat.le_of_ble_eq_true rfl) (by decide) ?_
  refine j_iload_n dX0_more_0 rfl ?_
  refine j_iconst (v := 0) dX0_more_1 (by decide) ?_
  refine j_iconst (v := 2) dX0_more_2 (by decide) ?_
  refine j_callSi (c_X0_isIn _ _ _) dX0_more_3 pmX0_isIn q220 q221 rfl ⟨Nat.le_of_ble_eq_true rfl, Nat.le_of_ble_eq_true rfl⟩ ⟨Nat.le_of_ble_eq_true rfl, Nat.le_of_ble_eq_true rfl⟩ rfl (Nat.le_of_ble_eq_true rfl) ?_
  refine j_ifb_ne (tgt := 12) dX0_more_6 (by decide) (fun c6 => absurd c6 hw) (fun c6 => ?_)
  refine j_ldc dX0_more_9 q223 ?_
  refine j_iret dX0_more_11 rfl rfl (Nat.le_refl _) (Nat.le_refl _) ?_
  exact jr_i rfl
set_option maxHeartbeats 4000000 in
theorem f_more0 {l : Launch} {D : va_G} {dT : Nat → ClassId} {H0 : Heap} {r : Nat → Nat} {nx : Nat} {g : j_H} {F : Nat → Nat} {V : Nat → Nat → Int32} {a nk : Nat} (h60 : g 60 = some (rcell .null a nk)) (w : Int32) (hw : 0 ≤ w ∧ w ≤ 2) : MC (gG l D dT H0) yX0_more cX0_more 6 (some .int) 9 0 0 [.ref (r 0), .int w] r (fkS r dT g F V) nx (jq_i (-1000000003) r (fkS r dT g F V) nx) := by
  refine MC.ofJ [some (.ref (r 0)), some (.int w), none, none, none, none] rfl (Nat.le_of_ble_eq_true rfl) (by decide) ?_
  refine j_iload_n dX0_more_0 rfl ?_
  refine j_iconst (v := 0) dX0_more_1 (by decide) ?_
  refine j_iconst (v := 2) dX0_more_2 (by decide) ?_
  refine j_callSi (c_X0_isIn _ _ _) dX0_more_3 pmX0_isIn q220 q221 rfl ⟨Nat.le_of_ble_eq_true rfl, Nat.le_of_ble_eq_true rfl⟩ ⟨Nat.le_of_ble_eq_true rfl, Nat.le_of_ble_eq_true rfl⟩ rfl (Nat.le_of_ble_eq_true rfl) ?_
  refine j_ifb_ne (tgt := 12) dX0_more_6 (by decide) (fun c6 => ?_) (fun c6 => absurd hw c6)
  refine j_aload_n dX0_more_12 rfl ?_
  refine j_callVi (f_isNone0 h60) dX0_more_13 pmX0_isNone q759 q761 qs13 (by first | rfl | assumption) rfl rfl rfl ⟨Nat.le_of_ble_eq_true rfl, Nat.le_of_ble_eq_true rfl⟩ ⟨Nat.le_of_ble_eq_true rfl, Nat.le_of_ble_eq_true rfl⟩ rfl (Nat.le_of_ble_eq_true rfl) ?_
  refine j_if_eq (tgt := 22) dX0_more_16 (by decide) (fun c16 => absurd c16 (by decide)) (fun c16 => ?_)
  refine j_ldc dX0_more_19 q970 ?_
  refine j_iret dX0_more_21 rfl rfl (Nat.le_refl _) (Nat.le_refl _) ?_
  exact jr_i rfl
