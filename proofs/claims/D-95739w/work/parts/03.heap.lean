set_option maxRecDepth 100000
theorem j_holds.P1 {G : j_G} {r : Nat → Nat} {h : j_H} {nx : Nat} {H : Heap} (hH : j_holds G r h nx H) {i : Nat} {e : va_E} (hi : h i = some e) : va_P G.2.1 G.2.2.1 [(r i, e)] H := by
  intro k q hk
  have hz : k < 1 := (List.getElem?_eq_some_iff.mp hk).1
  rw [show k = 0 by omega] at hk
  cases hk
  exact (hH.2.2.2.1 i e hi).2
theorem j_lo {A : Nat → Prop} {locs : List Loc} {a k : Nat} (h : ∀ q ∈ locs, A q.base) (ha : A a) : ∀ q ∈ locs ++ [⟨a, k⟩], A q.base := by
  intro q hq
  rcases List.mem_append.mp hq with h1 | h1
  · exact h q h1
  · rw [List.mem_singleton] at h1
    subst h1
    exact ha
theorem j_clamp {x : Int32} {j n : Nat} (hx : x = nI j) (hj : j < n) (hn : n < 2 ^ 31) : x.toNatClampNeg = j ∧ vp_in x n := by
  subst hx
  exact ⟨nI_clamp (by omega), vp_in_nI hj hn⟩
section JF
variable {G : j_G} {cc : ByteArray} {own : String} {nL : Nat} {ret : Option FieldType} {nm : String} {R : Room} {xt : Code → Prop} {Q : j_Q} {mc ms cells slots : Nat} {r : Nat → Nat} {h : j_H} {nx pc : Nat} {L : List (Option Value)} {st : List Value}
variable {C : String} {T : u_T} {N ci index i : Nat} {fs : List Value} {v : Value}

theorem j_get (k : Nat) (hd : decode cc pc = .ok (.getfield index, 3)) (hi : h i = some (.inr (ci, fs))) (hin : ∀ w ∈ u_ws C T N, w ∈ lw_all) (hc : G.2.2.1[ci]? = some (C, T, N)) (hk : k < N) (hw : Cond.fieldLink own index (T k).1 (T k).2.1 (T k).2.2.1 ∈ lw_all) (hv : fs[k]? = some v) (kk : J G (cc, own, nL, ret, nm, R, xt) Q mc ms cells slots r h nx (pc + 3) L (v :: st)) : J G (cc, own, nL, ret, nm, R, xt) Q mc ms cells slots r h nx pc L (.ref (r i) :: st) := by
  intro p e s m args below meth c E H locs ls hH hlo hL
  obtain ⟨hx, hb, hr, hlk, hnm, hml, hown, hts, hK, hxt⟩ := id E
  exact va_get hx hb hts hin hown hK.1 (hH.P1 hi) 0 rfl hc k hk (hts _ hw) (fun _ h9 => h9) hv hd (kk p e s m args below meth c E H locs ls hH hlo hL)
/-- a field of a superclass, named through another class -/
theorem j_getU (k : Nat) {ref : String} (hd : decode cc pc = .ok (.getfield index, 3)) (hi : h i = some (.inr (ci, fs))) (hin : ∀ w ∈ u_ws C T N, w ∈ lw_all) (hc : G.2.2.1[ci]? = some (C, T, N)) (hk : k < N) (hw : Cond.fieldLink own index ref (T k).2.1 (T k).2.2.1 ∈ lw_all) (hsm : Cond.sameField ref (T k).1 (T k).2.1 (T k).2.2.1 ∈ lw_all) (hv : fs[k]? = some v) (kk : J G (cc, own, nL, ret, nm, R, xt) Q mc ms cells slots r h nx (pc + 3) L (v :: st)) : J G (cc, own, nL, ret, nm, R, xt) Q mc ms cells slots r h nx pc L (.ref (r i) :: st) := by
  intro p e s m args below meth c E H locs ls hH hlo hL
  obtain ⟨hx, hb, hr, hlk, hnm, hml, hown, hts, hK, hxt⟩ := id E
  exact va_get hx hb hts hin hown hK.1 (hH.P1 hi) 0 rfl hc k hk (hts _ hw) (fun x h9 => u_same (hts _ hsm) x h9) hv hd (kk p e s m args below meth c E H locs ls hH hlo hL)
/-- a nest mate's private field -/
theorem j_getN (k : Nat) {host : String} (hd : decode cc pc = .ok (.getfield index, 3)) (hi : h i = some (.inr (ci, fs))) (hin : ∀ w ∈ u_ws C T N, w ∈ lw_all) (hc : G.2.2.1[ci]? = some (C, T, N)) (hk : k < N) (hw : ∀ s : State, G.2.2.2.2.2 s → va_Nw (Cond.fieldLinkNest own index (T k).1 (T k).2.1 (T k).2.2.1 host) s) (hv : fs[k]? = some v) (kk : J G (cc, own, nL, ret, nm, R, xt) Q mc ms cells slots r h nx (pc + 3) L (v :: st)) : J G (cc, own, nL, ret, nm, R, xt) Q mc ms cells slots r h nx pc L (.ref (r i) :: st) := by
  intro p e s m args below meth c E H locs ls hH hlo hL
  obtain ⟨hx, hb, hr, hlk, hnm, hml, hown, hts, hK, hxt⟩ := id E
  exact va_getN hx hb hts hin hown hK.1 (hH.P1 hi) 0 rfl hc k hk (va_Nw.use rfl (hw s hK.2.1)) (fun _ h9 => h9) hv hd (kk p e s m args below meth c E H locs ls hH hlo hL)
theorem j_put (k : Nat)  (hd : decode cc pc = .ok (.putfield index, 3)) (hi : h i = some (.inr (ci, fs))) (hin : ∀ w ∈ u_ws C T N, w ∈ lw_all) {ty0 : Nat → FieldType} (hty : ∀ k, k < N → parseFieldDescriptor (T k).2.2.1 = some (ty0 k)) (hnm0 : ∀ a, a < N → ∀ b, b < N → a ≠ b → (T a).2.1 ≠ (T b).2.1) (hc : G.2.2.1[ci]? = some (C, T, N)) (hk : k < N) (hw : Cond.fieldLink own index (T k).1 (T k).2.1 (T k).2.2.1 ∈ lw_all) (hfin : (T k).2.2.2 = false) (hn : narrow (ty0 k) v = v) (hfit : fits (ty0 k) v = true) (hl : k < fs.length) (kk : J G (cc, own, nL, ret, nm, R, xt) Q mc ms cells slots r (j_set h i (.inr (ci, fs.set k v))) nx (pc + 3) L st) : J G (cc, own, nL, ret, nm, R, xt) Q mc ms cells slots r h nx pc L (v :: .ref (r i) :: st) := by
  intro p e s m args below meth c E H locs ls hH hlo hL
  obtain ⟨hx, hb, hr, hlk, hnm, hml, hown, hts, hK, hxt⟩ := id E
  have hap := va_apart (own := own) hts hin ty0 hty hnm0 hK.1 hc
  obtain ⟨r0, h1, cell, q1, q2, q3, q4⟩ := (hH.2.2.2.1 i _ hi).2
  have hr0 : r0 = (C, T, N) := Option.some.inj (h1.symm.trans hc)
  subst hr0
  obtain ⟨hS, hfc, kC, hkC, hkind⟩ := hK.1.1 ci _ hc
  obtain ⟨cf, kf, fi, f, hif, hsl⟩ := hS k hk
  have hlay := hts _ (hin _ (u_in_lay hk))
  unfold u_lay at hlay
  rw [if_neg (by rw [hfin]; decide)] at hlay
  have hst := (u_facts hfc hkC (u_lays hts hin hk) hif).1
  have h6 := u_store hfc hkC hkind hlay hif (hty k hk) hn hfit
  refine W.putK hx hb (f := f) ⟨hown, hts _ hw, ⟨_, _, _, hif⟩, hst⟩ (by rw [q2]; exact h6) q1 q3 (by rw [hsl]; exact k2_hasslot (q4 k hk)) rfl rfl hd fun H' e1 e2 e3 => ?_
  rw [hsl] at e1 ⊢
  exact kk p e s m args below meth c E H' _ ls (hH.set hi ⟨_, hc, t_OB.to (V := updV (vp_V fs) k v) ⟨_, e1, q2, q3, t_set q4 hap hk v⟩ (fun j _ => vp_updV_set hl v j)⟩ e2 e3) (j_lo (A := fun q => G.2.2.2.2.1.size ≤ q) hlo (hH.2.2.2.1 i _ hi).1) hL
theorem j_putF (k : Nat)  (hd : decode cc pc = .ok (.putfield index, 3)) (hi : h i = some (.inr (ci, fs))) (hin : ∀ w ∈ u_ws C T N, w ∈ lw_all) {ty0 : Nat → FieldType} (hty : ∀ k, k < N → parseFieldDescriptor (T k).2.2.1 = some (ty0 k)) (hnm0 : ∀ a, a < N → ∀ b, b < N → a ≠ b → (T a).2.1 ≠ (T b).2.1) (hc : G.2.2.1[ci]? = some (C, T, N)) (hk : k < N) (hw : Cond.fieldLink own index (T k).1 (T k).2.1 (T k).2.2.1 ∈ lw_all) (hfin : (T k).2.2.2 = true) (hin2 : nm = "<init>") (hdecl : (T k).1 = own) (hn : narrow (ty0 k) v = v) (hfit : fits (ty0 k) v = true) (hl : k < fs.length) (kk : J G (cc, own, nL, ret, nm, R, xt) Q mc ms cells slots r (j_set h i (.inr (ci, fs.set k v))) nx (pc + 3) L st) : J G (cc, own, nL, ret, nm, R, xt) Q mc ms cells slots r h nx pc L (v :: .ref (r i) :: st) := by
  intro p e s m args below meth c E H locs ls hH hlo hL
  obtain ⟨hx, hb, hr, hlk, hnm, hml, hown, hts, hK, hxt⟩ := id E
  have hap := va_apart (own := own) hts hin ty0 hty hnm0 hK.1 hc
  obtain ⟨r0, h1, cell, q1, q2, q3, q4⟩ := (hH.2.2.2.1 i _ hi).2
  have hr0 : r0 = (C, T, N) := Option.some.inj (h1.symm.trans hc)
  subst hr0
  obtain ⟨hS, hfc, kC, hkC, hkind⟩ := hK.1.1 ci _ hc
  obtain ⟨cf, kf, fi, f, hif, hsl⟩ := hS k hk
  have hlay := hts _ (hin _ (u_in_lay hk))
  unfold u_lay at hlay
  rw [if_pos hfin] at hlay
  have hst := (u_facts hfc hkC (u_lays hts hin hk) hif).1
  have hcf : m.cls = cf := by
    obtain ⟨_, _, c', _, _, _, -, -, hf', -, -, -, hown2, -⟩ := Cond.laysFinal_spec hlay
    have e1 : c' = cf := by have := hif.symm.trans hf'; simp at this; exact this.1.symm
    rw [hdecl] at hown2
    rw [← e1]; exact Option.some.inj (hown.symm.trans hown2)
  have h6 := u_fits hfc hkC hkind (Or.inr hlay) hif (hty k hk) hn hfit
  refine W.putFinK hx hb hown (hts _ hw) hif hst hcf (hnm.trans hin2) (by rw [q2]; exact h6) q1 q3 (by rw [hsl]; exact k2_hasslot (q4 k hk)) rfl rfl hd fun H' e1 e2 e3 => ?_
  rw [hsl] at e1 ⊢
  exact kk p e s m args below meth c E H' _ ls (hH.set hi ⟨_, hc, t_OB.to (V := updV (vp_V fs) k v) ⟨_, e1, q2, q3, t_set q4 hap hk v⟩ (fun j _ => vp_updV_set hl v j)⟩ e2 e3) (j_lo (A := fun q => G.2.2.2.2.1.size ≤ q) hlo (hH.2.2.2.1 i _ hi).1) hL
theorem j_putN (k : Nat) {host : String} (hd : decode cc pc = .ok (.putfield index, 3)) (hi : h i = some (.inr (ci, fs))) (hin : ∀ w ∈ u_ws C T N, w ∈ lw_all) {ty0 : Nat → FieldType} (hty : ∀ k, k < N → parseFieldDescriptor (T k).2.2.1 = some (ty0 k)) (hnm0 : ∀ a, a < N → ∀ b, b < N → a ≠ b → (T a).2.1 ≠ (T b).2.1) (hc : G.2.2.1[ci]? = some (C, T, N)) (hk : k < N) (hw : ∀ s : State, G.2.2.2.2.2 s → va_Nw (Cond.fieldLinkNest own index (T k).1 (T k).2.1 (T k).2.2.1 host) s) (hfin : (T k).2.2.2 = false) (hn : narrow (ty0 k) v = v) (hfit : fits (ty0 k) v = true) (hl : k < fs.length) (kk : J G (cc, own, nL, ret, nm, R, xt) Q mc ms cells slots r (j_set h i (.inr (ci, fs.set k v))) nx (pc + 3) L st) : J G (cc, own, nL, ret, nm, R, xt) Q mc ms cells slots r h nx pc L (v :: .ref (r i) :: st) := by
  intro p e s m args below meth c E H locs ls hH hlo hL
  obtain ⟨hx, hb, hr, hlk, hnm, hml, hown, hts, hK, hxt⟩ := id E
  have hap := va_apart (own := own) hts hin ty0 hty hnm0 hK.1 hc
  obtain ⟨r0, h1, cell, q1, q2, q3, q4⟩ := (hH.2.2.2.1 i _ hi).2
  have hr0 : r0 = (C, T, N) := Option.some.inj (h1.symm.trans hc)
  subst hr0
  obtain ⟨hS, hfc, kC, hkC, hkind⟩ := hK.1.1 ci _ hc
  obtain ⟨cf, kf, fi, f, hif, hsl⟩ := hS k hk
  have hlay := hts _ (hin _ (u_in_lay hk))
  unfold u_lay at hlay
  rw [if_neg (by rw [hfin]; decide)] at hlay
  have hst := (u_facts hfc hkC (u_lays hts hin hk) hif).1
  have h6 := u_store hfc hkC hkind hlay hif (hty k hk) hn hfit
  refine va_WputK hx hb (f := f) hown (va_Nw.use rfl (hw s hK.2.1)) hif hst (by rw [q2]; exact h6) q1 q3 (by rw [hsl]; exact k2_hasslot (q4 k hk)) rfl rfl hd fun H' e1 e2 e3 => ?_
  rw [hsl] at e1 ⊢
  exact kk p e s m args below meth c E H' _ ls (hH.set hi ⟨_, hc, t_OB.to (V := updV (vp_V fs) k v) ⟨_, e1, q2, q3, t_set q4 hap hk v⟩ (fun j _ => vp_updV_set hl v j)⟩ e2 e3) (j_lo (A := fun q => G.2.2.2.2.1.size ≤ q) hlo (hH.2.2.2.1 i _ hi).1) hL
variable {cA : ClassId} {n : Nat} {x0 : Int32}
theorem j_iald (t0 j : Nat) {f : Nat → Int32} (hd : decode cc pc = .ok (.iaload, 1)) (hi : h i = some (.inl (cA, n, .inl f))) (ht : G.2.2.2.1[t0]? = some (cA, .int)) (hx0 : x0 = nI j) (hj : j < n) (hn : n < 2 ^ 31) (kk : J G (cc, own, nL, ret, nm, R, xt) Q mc ms cells slots r h nx (pc + 1) L (.int (f j) :: st)) : J G (cc, own, nL, ret, nm, R, xt) Q mc ms cells slots r h nx pc L (.int x0 :: .ref (r i) :: st) := by
  intro p e s m args below meth c E H locs ls hH hlo hL
  obtain ⟨hx, hb, hr, hlk, hnm, hml, hown, hts, hK, hxt⟩ := id E
  obtain ⟨hcl, hvi⟩ := j_clamp hx0 hj hn
  refine va_iald hx hb hK.1 (hH.P1 hi) 0 t0 rfl ht hvi hd ?_
  rw [hcl]
  exact kk p e s m args below meth c E H locs ls hH hlo hL
theorem j_bald (t0 j : Nat) {f : Nat → Int32} (hd : decode cc pc = .ok (.baload, 1)) (hi : h i = some (.inl (cA, n, .inl f))) (ht : G.2.2.2.1[t0]? = some (cA, .byte)) (hx0 : x0 = nI j) (hj : j < n) (hn : n < 2 ^ 31) (kk : J G (cc, own, nL, ret, nm, R, xt) Q mc ms cells slots r h nx (pc + 1) L (.int (f j) :: st)) : J G (cc, own, nL, ret, nm, R, xt) Q mc ms cells slots r h nx pc L (.int x0 :: .ref (r i) :: st) := by
  intro p e s m args below meth c E H locs ls hH hlo hL
  obtain ⟨hx, hb, hr, hlk, hnm, hml, hown, hts, hK, hxt⟩ := id E
  obtain ⟨hcl, hvi⟩ := j_clamp hx0 hj hn
  refine va_bald hx hb hK.1 (hH.P1 hi) 0 t0 rfl ht hvi hd ?_
  rw [hcl]
  exact kk p e s m args below meth c E H locs ls hH hlo hL
theorem j_zald (t0 j : Nat) {f : Nat → Int32} (hd : decode cc pc = .ok (.baload, 1)) (hi : h i = some (.inl (cA, n, .inl f))) (ht : G.2.2.2.1[t0]? = some (cA, .boolean)) (hx0 : x0 = nI j) (hj : j < n) (hn : n < 2 ^ 31) (kk : J G (cc, own, nL, ret, nm, R, xt) Q mc ms cells slots r h nx (pc + 1) L (.int (f j) :: st)) : J G (cc, own, nL, ret, nm, R, xt) Q mc ms cells slots r h nx pc L (.int x0 :: .ref (r i) :: st) := by
  intro p e s m args below meth c E H locs ls hH hlo hL
  obtain ⟨hx, hb, hr, hlk, hnm, hml, hown, hts, hK, hxt⟩ := id E
  obtain ⟨hcl, hvi⟩ := j_clamp hx0 hj hn
  refine va_zald hx hb hK.1 (hH.P1 hi) 0 t0 rfl ht hvi hd ?_
  rw [hcl]
  exact kk p e s m args below meth c E H locs ls hH hlo hL
theorem j_lald (t0 j : Nat) {f : Nat → Int64} (hd : decode cc pc = .ok (.laload, 1)) (hi : h i = some (.inl (cA, n, .inr (.inl f)))) (ht : G.2.2.2.1[t0]? = some (cA, .long)) (hx0 : x0 = nI j) (hj : j < n) (hn : n < 2 ^ 31) (kk : J G (cc, own, nL, ret, nm, R, xt) Q mc ms cells slots r h nx (pc + 1) L (.long (f j) :: st)) : J G (cc, own, nL, ret, nm, R, xt) Q mc ms cells slots r h nx pc L (.int x0 :: .ref (r i) :: st) := by
  intro p e s m args below meth c E H locs ls hH hlo hL
  obtain ⟨hx, hb, hr, hlk, hnm, hml, hown, hts, hK, hxt⟩ := id E
  obtain ⟨hcl, hvi⟩ := j_clamp hx0 hj hn
  refine va_lald hx hb hK.1 (hH.P1 hi) 0 t0 rfl ht hvi hd ?_
  rw [hcl]
  exact kk p e s m args below meth c E H locs ls hH hlo hL
theorem j_cald (t0 j : Nat) {f : Nat → Int32} (hd : decode cc pc = .ok (.caload, 1)) (hi : h i = some (.inl (cA, n, .inl f))) (ht : G.2.2.2.1[t0]? = some (cA, .char)) (hx0 : x0 = nI j) (hj : j < n) (hn : n < 2 ^ 31) (kk : J G (cc, own, nL, ret, nm, R, xt) Q mc ms cells slots r h nx (pc + 1) L (.int (f j) :: st)) : J G (cc, own, nL, ret, nm, R, xt) Q mc ms cells slots r h nx pc L (.int x0 :: .ref (r i) :: st) := by
  intro p e s m args below meth c E H locs ls hH hlo hL
  obtain ⟨hx, hb, hr, hlk, hnm, hml, hown, hts, hK, hxt⟩ := id E
  obtain ⟨hcl, hvi⟩ := j_clamp hx0 hj hn
  refine va_cald hx hb hK.1 (hH.P1 hi) 0 t0 rfl ht hvi hd ?_
  rw [hcl]
  exact kk p e s m args below meth c E H locs ls hH hlo hL
theorem j_sald (t0 j : Nat) {f : Nat → Int32} (hd : decode cc pc = .ok (.saload, 1)) (hi : h i = some (.inl (cA, n, .inl f))) (ht : G.2.2.2.1[t0]? = some (cA, .short)) (hx0 : x0 = nI j) (hj : j < n) (hn : n < 2 ^ 31) (kk : J G (cc, own, nL, ret, nm, R, xt) Q mc ms cells slots r h nx (pc + 1) L (.int (f j) :: st)) : J G (cc, own, nL, ret, nm, R, xt) Q mc ms cells slots r h nx pc L (.int x0 :: .ref (r i) :: st) := by
  intro p e s m args below meth c E H locs ls hH hlo hL
  obtain ⟨hx, hb, hr, hlk, hnm, hml, hown, hts, hK, hxt⟩ := id E
  obtain ⟨hcl, hvi⟩ := j_clamp hx0 hj hn
  refine va_sald hx hb hK.1 (hH.P1 hi) 0 t0 rfl ht hvi hd ?_
  rw [hcl]
  exact kk p e s m args below meth c E H locs ls hH hlo hL
theorem j_iast (t0 j : Nat) {f : Nat → Int32} {x : Int32} (hd : decode cc pc = .ok (.iastore, 1)) (hi : h i = some (.inl (cA, n, .inl f))) (ht : G.2.2.2.1[t0]? = some (cA, .int)) (hx0 : x0 = nI j) (hj : j < n) (hn : n < 2 ^ 31) (kk : J G (cc, own, nL, ret, nm, R, xt) Q mc ms cells slots r (j_set h i (.inl (cA, n, .inl (upd f j x)))) nx (pc + 1) L st) : J G (cc, own, nL, ret, nm, R, xt) Q mc ms cells slots r h nx pc L (.int x :: .int x0 :: .ref (r i) :: st) := by
  intro p e s m args below meth c E H locs ls hH hlo hL
  obtain ⟨hx, hb, hr, hlk, hnm, hml, hown, hts, hK, hxt⟩ := id E
  obtain ⟨hcl, hvi⟩ := j_clamp hx0 hj hn
  have hat := hH.2.2.2.1 i _ hi
  have hD : va_D (fun q => G.2.2.2.2.1.size ≤ q) [(r i, .inl (cA, n, .inl f))] := ⟨fun a b p q ha hb _ => by
    have ha := (List.getElem?_eq_some_iff.mp ha).1
    have hb := (List.getElem?_eq_some_iff.mp hb).1
    simp at ha hb
    omega, fun k q hk => by
    have hz : k < 1 := (List.getElem?_eq_some_iff.mp hk).1
    rw [show k = 0 by omega] at hk
    cases hk
    exact hat.1⟩
  refine W.iast hx hb hat.2 ((hK.1.2 t0 _ ht).1 n (fun j => .int (f j))) (fun q => by cases q) (by show ¬ (_ < 0 ∨ (arrV _ _ _).slots.size ≤ _); rw [arrV_size]; exact hvi) rfl rfl hd fun H1 e1 z oq => ?_
  refine kk p e s m args below meth c E H1 _ ls (hH.set hi ?_ z oq) (j_lo (A := fun q => G.2.2.2.2.1.size ≤ q) hlo hat.1) hL
  show H1[r i]? = some (vp_cell _ _)
  rw [e1]
  rw [vp_cell_i, vp_cell_i, arrV_store, hcl]
  congr 2
  funext q
  by_cases hq : q = j
  · subst hq
    simp [updV, upd]
    
  · simp [updV, upd, hq]
theorem j_last (t0 j : Nat) {f : Nat → Int64} {x : Int64} (hd : decode cc pc = .ok (.lastore, 1)) (hi : h i = some (.inl (cA, n, .inr (.inl f)))) (ht : G.2.2.2.1[t0]? = some (cA, .long)) (hx0 : x0 = nI j) (hj : j < n) (hn : n < 2 ^ 31) (kk : J G (cc, own, nL, ret, nm, R, xt) Q mc ms cells slots r (j_set h i (.inl (cA, n, .inr (.inl (vp_updL f j x))))) nx (pc + 1) L st) : J G (cc, own, nL, ret, nm, R, xt) Q mc ms cells slots r h nx pc L (.long x :: .int x0 :: .ref (r i) :: st) := by
  intro p e s m args below meth c E H locs ls hH hlo hL
  obtain ⟨hx, hb, hr, hlk, hnm, hml, hown, hts, hK, hxt⟩ := id E
  obtain ⟨hcl, hvi⟩ := j_clamp hx0 hj hn
  have hat := hH.2.2.2.1 i _ hi
  have hD : va_D (fun q => G.2.2.2.2.1.size ≤ q) [(r i, .inl (cA, n, .inr (.inl f)))] := ⟨fun a b p q ha hb _ => by
    have ha := (List.getElem?_eq_some_iff.mp ha).1
    have hb := (List.getElem?_eq_some_iff.mp hb).1
    simp at ha hb
    omega, fun k q hk => by
    have hz : k < 1 := (List.getElem?_eq_some_iff.mp hk).1
    rw [show k = 0 by omega] at hk
    cases hk
    exact hat.1⟩
  refine W.last hx hb hat.2 ((hK.1.2 t0 _ ht).1 n (fun j => .long (f j))) (fun q => by cases q) (by show ¬ (_ < 0 ∨ (arrV _ _ _).slots.size ≤ _); rw [arrV_size]; exact hvi) rfl rfl hd fun H1 e1 z oq => ?_
  refine kk p e s m args below meth c E H1 _ ls (hH.set hi ?_ z oq) (j_lo (A := fun q => G.2.2.2.2.1.size ≤ q) hlo hat.1) hL
  show H1[r i]? = some (vp_cell _ _)
  rw [e1]
  rw [vp_cell_l, vp_cell_l, arrV_store, hcl]
  congr 2
  funext q
  by_cases hq : q = j
  · subst hq
    simp [updV, vp_updL]
    
  · simp [updV, vp_updL, hq]
theorem j_bast (t0 j : Nat) {f : Nat → Int32} {x : Int32} (hd : decode cc pc = .ok (.bastore, 1)) (hi : h i = some (.inl (cA, n, .inl f))) (ht : G.2.2.2.1[t0]? = some (cA, .byte)) (hx0 : x0 = nI j) (hj : j < n) (hn : n < 2 ^ 31) (kk : J G (cc, own, nL, ret, nm, R, xt) Q mc ms cells slots r (j_set h i (.inl (cA, n, .inl (upd f j (vp_nar .byte x))))) nx (pc + 1) L st) : J G (cc, own, nL, ret, nm, R, xt) Q mc ms cells slots r h nx pc L (.int x :: .int x0 :: .ref (r i) :: st) := by
  intro p e s m args below meth c E H locs ls hH hlo hL
  obtain ⟨hx, hb, hr, hlk, hnm, hml, hown, hts, hK, hxt⟩ := id E
  obtain ⟨hcl, hvi⟩ := j_clamp hx0 hj hn
  have hat := hH.2.2.2.1 i _ hi
  have hD : va_D (fun q => G.2.2.2.2.1.size ≤ q) [(r i, .inl (cA, n, .inl f))] := ⟨fun a b p q ha hb _ => by
    have ha := (List.getElem?_eq_some_iff.mp ha).1
    have hb := (List.getElem?_eq_some_iff.mp hb).1
    simp at ha hb
    omega, fun k q hk => by
    have hz : k < 1 := (List.getElem?_eq_some_iff.mp hk).1
    rw [show k = 0 by omega] at hk
    cases hk
    exact hat.1⟩
  refine W.bast hx hb hat.2 ((hK.1.2 t0 _ ht).1 n (fun j => .int (f j))) (fun q => by cases q) (by show ¬ (_ < 0 ∨ (arrV _ _ _).slots.size ≤ _); rw [arrV_size]; exact hvi) rfl rfl hd fun H1 e1 z oq => ?_
  refine kk p e s m args below meth c E H1 _ ls (hH.set hi ?_ z oq) (j_lo (A := fun q => G.2.2.2.2.1.size ≤ q) hlo hat.1) hL
  show H1[r i]? = some (vp_cell _ _)
  rw [e1]
  rw [vp_cell_i, vp_cell_i, arrV_store, hcl]
  congr 2
  funext q
  by_cases hq : q = j
  · subst hq
    simp [updV, upd]
    first | done | rfl
  · simp [updV, upd, hq]
theorem j_zast (t0 j : Nat) {f : Nat → Int32} {x : Int32} (hd : decode cc pc = .ok (.bastore, 1)) (hi : h i = some (.inl (cA, n, .inl f))) (ht : G.2.2.2.1[t0]? = some (cA, .boolean)) (hx0 : x0 = nI j) (hj : j < n) (hn : n < 2 ^ 31) (kk : J G (cc, own, nL, ret, nm, R, xt) Q mc ms cells slots r (j_set h i (.inl (cA, n, .inl (upd f j (vp_nar .boolean x))))) nx (pc + 1) L st) : J G (cc, own, nL, ret, nm, R, xt) Q mc ms cells slots r h nx pc L (.int x :: .int x0 :: .ref (r i) :: st) := by
  intro p e s m args below meth c E H locs ls hH hlo hL
  obtain ⟨hx, hb, hr, hlk, hnm, hml, hown, hts, hK, hxt⟩ := id E
  obtain ⟨hcl, hvi⟩ := j_clamp hx0 hj hn
  have hat := hH.2.2.2.1 i _ hi
  have hD : va_D (fun q => G.2.2.2.2.1.size ≤ q) [(r i, .inl (cA, n, .inl f))] := ⟨fun a b p q ha hb _ => by
    have ha := (List.getElem?_eq_some_iff.mp ha).1
    have hb := (List.getElem?_eq_some_iff.mp hb).1
    simp at ha hb
    omega, fun k q hk => by
    have hz : k < 1 := (List.getElem?_eq_some_iff.mp hk).1
    rw [show k = 0 by omega] at hk
    cases hk
    exact hat.1⟩
  refine W.zast hx hb hat.2 ((hK.1.2 t0 _ ht).1 n (fun j => .int (f j))) (fun q => by cases q) (by show ¬ (_ < 0 ∨ (arrV _ _ _).slots.size ≤ _); rw [arrV_size]; exact hvi) rfl rfl hd fun H1 e1 z oq => ?_
  refine kk p e s m args below meth c E H1 _ ls (hH.set hi ?_ z oq) (j_lo (A := fun q => G.2.2.2.2.1.size ≤ q) hlo hat.1) hL
  show H1[r i]? = some (vp_cell _ _)
  rw [e1]
  rw [vp_cell_i, vp_cell_i, arrV_store, hcl]
  congr 2
  funext q
  by_cases hq : q = j
  · subst hq
    simp [updV, upd]
    first | done | rfl
  · simp [updV, upd, hq]
theorem j_aald (t0 j : Nat) {ty : FieldType} {f : Nat → Option Nat} {w : Value} (hd : decode cc pc = .ok (.aaload, 1)) (hi : h i = some (.inl (cA, n, .inr (.inr (.inr (.inr f)))))) (ht : G.2.2.2.1[t0]? = some (cA, ty)) (href : ty.isReference = true) (hx0 : x0 = nI j) (hj : j < n) (hn : n < 2 ^ 31) (hw : va_rf (f j) = w) (kk : J G (cc, own, nL, ret, nm, R, xt) Q mc ms cells slots r h nx (pc + 1) L (w :: st)) : J G (cc, own, nL, ret, nm, R, xt) Q mc ms cells slots r h nx pc L (.int x0 :: .ref (r i) :: st) := by
  intro p e s m args below meth c E H locs ls hH hlo hL
  obtain ⟨hx, hb, hr, hlk, hnm, hml, hown, hts, hK, hxt⟩ := id E
  obtain ⟨hcl, hvi⟩ := j_clamp hx0 hj hn
  have hat := hH.2.2.2.1 i _ hi
  exact W.aald (v := w) (ty := ty) hx hb hat.2 ((hK.1.2 t0 _ ht).1 n (fun j => va_rf (f j))) href (fun q => by cases q) (by show ¬ (_ < 0 ∨ (arrV _ _ _).slots.size ≤ _); rw [arrV_size]; exact hvi) (by show (arrV _ _ _).slots[_]? = _; rw [hcl, arrV_read _ _ hj, hw]) rfl rfl hd (kk p e s m args below meth c E H locs ls hH hlo hL)
theorem j_alen (t0 : Nat) {x : vp_A} {ty : FieldType} (hd : decode cc pc = .ok (.arraylength, 1)) (hi : h i = some (.inl (cA, x))) (ht : G.2.2.2.1[t0]? = some (cA, ty)) (kk : J G (cc, own, nL, ret, nm, R, xt) Q mc ms cells slots r h nx (pc + 1) L (.int (nI x.1) :: st)) : J G (cc, own, nL, ret, nm, R, xt) Q mc ms cells slots r h nx pc L (.ref (r i) :: st) := by
  intro p e s m args below meth c E H locs ls hH hlo hL
  obtain ⟨hx, hb, hr, hlk, hnm, hml, hown, hts, hK, hxt⟩ := id E
  exact va_alen hx hb hK.1 (hH.P1 hi) 0 t0 rfl ht rfl hd (kk p e s m args below meth c E H locs ls hH hlo hL)
/-- a reference stored in an array of its class, or of a class above it -/
theorem j_aast (t0 j : Nat) {E0 : String} {f : Nat → Option Nat} {iv cv : Nat} {vs : List Value} {q0 : vw_C} (hd : decode cc pc = .ok (.aastore, 1)) (hi : h i = some (.inl (cA, n, .inr (.inr (.inr (.inr f)))))) (ht : G.2.2.2.1[t0]? = some (cA, .object E0)) (hx0 : x0 = nI j) (hj : j < n) (hn : n < 2 ^ 31) (hv : h iv = some (.inr (cv, vs))) (hcv : G.2.2.1[cv]? = some q0) (hasg : ∀ (s : State) (comp c0 : ClassId), j_K G s → s.vm.findClass E0 = some comp → s.vm.findClass q0.1 = some c0 → s.vm.assignable c0 comp = true) (kk : J G (cc, own, nL, ret, nm, R, xt) Q mc ms cells slots r (j_set h i (.inl (cA, n, .inr (.inr (.inr (.inr (va_up f j (some (r iv))))))))) nx (pc + 1) L st) : J G (cc, own, nL, ret, nm, R, xt) Q mc ms cells slots r h nx pc L (.ref (r iv) :: .int x0 :: .ref (r i) :: st) := by
  intro p e s m args below meth c E H locs ls hH hlo hL
  obtain ⟨hx, hb, hr, hlk, hnm, hml, hown, hts, hK, hxt⟩ := id E
  obtain ⟨hcl, hvi⟩ := j_clamp hx0 hj hn
  have hat := hH.2.2.2.1 i _ hi
  have hlt : x0.toNatClampNeg < n := by rw [hcl]; exact hj
  have h0 : ¬ x0 < 0 := fun q => hvi (Or.inl q)
  obtain ⟨cellV, g1, g3, g4⟩ := va_recv hK.1 (hH.P1 hv) hcv (q0 := 0) rfl
  obtain ⟨kC, hkC, -⟩ := Vm.findClass_spec g4
  obtain ⟨kA, comp, k1, k2, k3, -⟩ := (hK.1.2 t0 _ ht).2
  obtain ⟨kE, hkE, -⟩ := Vm.findClass_spec k3
  refine W.aast hx hb hat.2 (fun q h => by cases h) (fun h => by cases h) k1 k2 rfl hkE ⟨h0, by show _ < (arrV _ _ _).slots.size; rw [arrV_size]; exact hlt⟩ g1 (fun q h => by rw [h] at g3; cases g3) hkC (hasg s _ _ hK k3 g4) rfl rfl hd fun H1 e1 z oq => ?_
  refine kk p e s m args below meth c E H1 _ ls (hH.set hi ?_ z oq) (j_lo (A := fun q => G.2.2.2.2.1.size ≤ q) hlo hat.1) hL
  show H1[r i]? = some (vp_cell _ _)
  rw [e1]
  rw [vp_cell_q, vp_cell_q, arrV_store, hcl]
  congr 2
  funext q
  by_cases hq : q = j
  · subst hq
    simp [updV, va_up, va_rf]
  · simp [updV, va_up, hq]
/-- a new object, under the id i, whose address is to be the heap's end -/
theorem j_new (i : Nat) (hq : r i = nx) (hd : decode cc pc = .ok (.new index, 3)) (hin : ∀ w ∈ u_ws C T N, w ∈ lw_all) {ty : Nat → FieldType} (hty : ∀ k, k < N → parseFieldDescriptor (T k).2.2.1 = some (ty k)) (hc : G.2.2.1[ci]? = some (C, T, N)) (hw1 : Cond.classLink own index C ∈ lw_all) (hw2 : Cond.instantiable C N ∈ lw_all) (hw3 : Cond.initialized C ∈ lw_all) (hfs : ∀ j, j < N → defaultValue (ty j) = vp_V fs j) (hcells : cells + 1 ≤ R.cells) (hslots : slots + N ≤ R.slots)
    (kk : J G (cc, own, nL, ret, nm, R, xt) Q mc ms (cells + 1) (slots + N) r (j_set h i (.inr (ci, fs))) (nx + 1) (pc + 3) L (.ref (r i) :: st)) : J G (cc, own, nL, ret, nm, R, xt) Q mc ms cells slots r h nx pc L st := by
  intro p e s m args below meth c E H locs ls hH hlo hL
  obtain ⟨hx, hb, hr, hlk, hnm, hml, hown, hts, hK, hxt⟩ := id E
  have hKn := hK.1.1 ci _ hc
  refine W.newcK hx hb hown (hts _ hw1) (hts _ hw2) (hts _ hw3) rfl hd hcells hslots hKn.2.1 hH.1 fun H1 kC hkC e1 z1 o1 => ?_
  rw [← hq] at e1 ⊢
  rw [← hq] at z1 o1
  refine kk p e s m args below meth c E H1 locs ls (hH.push hq ⟨_, hc, (u_born ty hts hin hKn hkC e1 hty).to hfs⟩ (by rw [z1, hq, hH.1]) (fun q hqq => o1 q (by rw [hq, ← hH.1]; exact hqq))) hlo hL
theorem j_newa (i t0 : Nat) (hq : r i = nx) {atype : ArrayType} {ty : FieldType} {x : Int32} {a0 : vp_A} (hd : decode cc pc = .ok (.newarray atype, 2)) (hw : Cond.arrayClass ty ∈ lw_all) (hty : newarray.typeOf atype = ty) (ht : G.2.2.2.1[t0]? = some (cA, ty)) (hx0 : x = nI n) (hn : n < 2 ^ 31) (ha : ∀ c0 : ClassId, vp_cell c0 a0 = arrV c0 n (fun _ => defaultValue ty)) (hbytes : n * componentBytes ty ≤ 536870912) (hcells : cells + 1 ≤ R.cells) (hslots : slots + n ≤ R.slots)
    (kk : J G (cc, own, nL, ret, nm, R, xt) Q mc ms (cells + 1) (slots + n) r (j_set h i (.inl (cA, a0))) (nx + 1) (pc + 2) L (.ref (r i) :: st)) : J G (cc, own, nL, ret, nm, R, xt) Q mc ms cells slots r h nx pc L (.int x :: st) := by
  intro p e s m args below meth c E H locs ls hH hlo hL
  obtain ⟨hx, hb, hr, hlk, hnm, hml, hown, hts, hK, hxt⟩ := id E
  subst hty
  have hcl : x.toNatClampNeg = n := by rw [hx0]; exact nI_clamp hn
  have hneg : ¬ x < 0 := by rw [hx0]; exact nI_pos hn
  refine va_newaK hx hb (hts _ hw) rfl hd rfl hneg hcl hbytes hcells hslots hH.1 fun H1 c1 e1 z1 o1 hAr hNm => ?_
  have hcA : c1 = cA := by
    have h3 := (hK.1.2 t0 _ ht).2
    have h4 : s.vm.findClass ("[" ++ (newarray.typeOf atype).toString) = some cA := by cases atype <;> exact h3
    exact Option.some.inj (hNm.symm.trans h4)
  subst hcA
  rw [← hq] at e1 ⊢
  rw [← hq] at z1 o1
  refine kk p e s m args below meth c E H1 locs ls (hH.push hq (show H1[r i]? = some (vp_cell _ _) by rw [ha]; exact e1) (by rw [z1, hq, hH.1]) (fun q hqq => o1 q (by rw [hq, ← hH.1]; exact hqq))) hlo hL
theorem j_objInit (hd : decode cc pc = .ok (.invokespecial index, 3)) (hw1 : Cond.methodLink own index Lib.objectInit ∈ lw_all) (hw2 : Cond.instanceMethod Lib.objectInit ∈ lw_all) (hw3 : Cond.code Lib.objectInit ⟨#[0xb1]⟩ 1 none ∈ lw_all) {a : Nat} (hf : 1 ≤ R.frames) (hl : (st.map fun v => v.category).sum + 12 ≤ R.locals) (kk : J G (cc, own, nL, ret, nm, R, xt) Q mc ms cells slots r h nx (pc + 3) L st) : J G (cc, own, nL, ret, nm, R, xt) Q mc ms cells slots r h nx pc L (.ref a :: st) := by
  intro p e s m args below meth c E H locs ls hH hlo hL
  obtain ⟨hx, hb, hr, hlk, hnm, hml, hown, hts, hK, hxt⟩ := id E
  exact W.objInit hx hb hown (hts _ hw1) (hts _ hw2) (hts _ hw3) rfl (by rw [hml]; exact hL.1) rfl hd hf (by show 2 * 0 + (List.map (fun v => v.category) st).sum + 12 ≤ R.locals; omega) (kk p e s m args below meth c E H locs ls hH hlo hL)
end JF
/-! ===== calls ===== -/
/-- what a method's own words say: its code, its class ready, its parameters -/
def j_pm (y : MethodName) (b : ByteArray) (maxL : Nat) (rt : Option FieldType) (n : Nat) : Prop := Cond.code y b maxL rt ∈ lw_all ∧ Cond.initialized y.cls ∈ lw_all ∧ y.cls ≠ "java/lang/invoke/MethodHandle" ∧ y.cls ≠ "java/lang/invoke/VarHandle" ∧ (parseMethodDescriptor y.desc).map (fun d => d.parameters.length) = some n
def j_isR (Q : j_Q) : Prop := ∀ o r h nx, Q o r h nx → ∃ v, o = .returned v
theorem MC.met {G : j_G} {y : MethodName} {cc : ByteArray} {nL : Nat} {ret : Option FieldType} {d mc ms : Nat} {args : List Value} {r : Nat → Nat} {h : j_H} {nx : Nat} {Q : j_Q} (hM : MC G y cc nL ret d mc ms args r h nx Q) (hQ : j_isR Q) : Met G.1 y (ws_ y cc nL ret) (j_rm d mc ms) (fun a U => a = args.toArray ∧ j_holds G r h nx U.heap ∧ j_K G U) (j_post G Q) mc ms (fun q => G.2.2.2.2.1.size ≤ q) := by
  intro p e ha hc hk s m args' below hf happ hP hK
  obtain ⟨n, o, h1, h2, h3, ⟨r', h', nx', a1, a2⟩, L, h5, h6⟩ := hM p e ha hc hk s m args' below hf happ hP hK
  exact ⟨n, o, h1, h2, h3, ⟨r', h', nx', a1, a2⟩, L, ⟨hQ _ _ _ _ a2, h5⟩, h6⟩
theorem j_blind {G : j_G} {args : List Value} {r : Nat → Nat} {h : j_H} {nx : Nat} : FrameBlind (fun a U => a = args.toArray ∧ j_holds G r h nx U.heap ∧ j_K G U) := by
  intro a U g mk hq
  exact ⟨hq.1, hq.2.1, hq.2.2.warm (State.WarmedH.refl U)⟩
section JC
variable {G : j_G} {cc : ByteArray} {own : String} {nL : Nat} {ret : Option FieldType} {nm : String} {R : Room} {xt : Code → Prop} {Q : j_Q} {mc ms cells slots : Nat} {r : Nat → Nat} {h : j_H} {nx pc : Nat} {L : List (Option Value)} {st : List Value}
variable {y : MethodName} {bytes : ByteArray} {maxL d1 mc1 ms1 n index i ci : Nat} {rt : Option FieldType} {As stk fs : List Value} {q0 : vw_C} {Q1 : j_Q}

theorem j_run {p : Program} {e : Env} {s : State} {m : MethodId} {args : Array Value} {below : List Frame} {meth : Method} {c : Code} {H : Heap} {locs : List Loc} {ls : Array Slot} {a : Array Value} {st0 : List Value} (E : j_env G (cc, own, nL, ret, nm, R, xt) p s m args meth c) (hlo : ∀ q ∈ locs, G.2.2.2.2.1.size ≤ q.base) (hL : j_loc ls nL L)
    (hr : va_Run p G.1 e R s m args below meth c H locs cells slots mc1 ms1 (F0 m pc ls st0) st (j_post G Q1 a) (fun q => G.2.2.2.2.1.size ≤ q))
    (kk : ∀ v r' h' nx', Q1 (.returned v) r' h' nx' → J G (cc, own, nL, ret, nm, R, xt) Q mc ms (cells + mc1) (slots + ms1) r' h' nx' (pc + 3) L (v.toList ++ st)) : W p G.1 e R s m args below meth c H locs cells slots (j_end G Q mc ms below args s) (F0 m pc ls st0) := by
  intro T hT X
  obtain ⟨v, st₀, t, T', L2, h0, X', hL2, e1, e2, ⟨r', h', nx', a1, a2⟩, stp⟩ := hr T hT X
  have hlo2 : ∀ q ∈ locs ++ L2, G.2.2.2.2.1.size ≤ q.base := by
    intro q hq
    rcases List.mem_append.mp hq with z | z
    · exact hlo q z
    · exact hL2 q z
  obtain ⟨t2, b1, b2⟩ := kk v r' h' nx' a2 p e s m args below meth c E T'.heap (locs ++ L2) ls (by rw [e1]; exact a1) hlo2 hL T' rfl X'
  exact ⟨t2, stp t2 b1, b2⟩

/-- invokevirtual of a method of the receiver's own class -/
theorem j_callV (hM : MC G y bytes maxL rt d1 mc1 ms1 (.ref (r i) :: As) r h nx Q1) (hQ : j_isR Q1) (hd : decode cc pc = .ok (.invokevirtual index, 3)) (hpm : j_pm y bytes maxL rt n) (hw : Cond.methodLink own index y ∈ lw_all) (hw2 : Cond.instanceMethod y ∈ lw_all) (hw3 : Cond.selects y.cls y y ∈ lw_all) (hi : h i = some (.inr (ci, fs))) (hc : G.2.2.1[ci]? = some q0) (hcl : q0.1 = y.cls) (hst : stk = As.reverse ++ .ref (r i) :: st) (hR : d1 + 1 ≤ R.frames ∧ 8 + (maxL + 11) + 64 * d1 ≤ R.locals) (hf : cells + mc1 ≤ R.cells ∧ slots + ms1 ≤ R.slots) (hn : As.length = n) (hcat : (st.map fun v => v.category).sum ≤ 8)
    (kk : ∀ v r' h' nx', Q1 (.returned v) r' h' nx' → J G (cc, own, nL, ret, nm, R, xt) Q mc ms (cells + mc1) (slots + ms1) r' h' nx' (pc + 3) L (v.toList ++ st)) : J G (cc, own, nL, ret, nm, R, xt) Q mc ms cells slots r h nx pc L stk := by
  intro p e s m args below meth c E H locs ls hH hlo hL
  obtain ⟨hx, hb, hr, hlk, hnm, hml, hown, hts, hK, hxt⟩ := id E
  subst hst
  obtain ⟨p1, p2, p3, p4, p5⟩ := hpm
  refine j_run E hlo hL (va_runV (C := y.cls) ⟨hx, hb, hml, hown, hts⟩ (hM.met hQ) (cwV (rm := j_rm d1 mc1 ms1) n hts (lw_V hw hw2 hw3 p2 p1) rfl rfl rfl ⟨rfl, p3, p4, p5⟩ hR) ⟨j_blind, ?_, fun U hU hW => ⟨rfl, by rw [hU]; exact hH, hK.warm hW⟩⟩ rfl hn hL.1 rfl ?_ hd hf) kk
  · have := va_recv hK.1 (hH.P1 hi) hc (q0 := 0) rfl
    rw [hcl] at this
    exact this
  · show 2 * 0 + _ ≤ 8
    omega
/-- invokestatic -/
theorem j_callS (hM : MC G y bytes maxL rt d1 mc1 ms1 As r h nx Q1) (hQ : j_isR Q1) (hd : decode cc pc = .ok (.invokestatic index, 3)) (hpm : j_pm y bytes maxL rt n) (hw : Cond.methodLink own index y ∈ lw_all) (hw2 : Cond.static y ∈ lw_all) (hst : stk = As.reverse ++ st) (hR : d1 + 1 ≤ R.frames ∧ 8 + (maxL + 11) + 64 * d1 ≤ R.locals) (hf : cells + mc1 ≤ R.cells ∧ slots + ms1 ≤ R.slots) (hn : As.length = n) (hcat : (st.map fun v => v.category).sum ≤ 8)
    (kk : ∀ v r' h' nx', Q1 (.returned v) r' h' nx' → J G (cc, own, nL, ret, nm, R, xt) Q mc ms (cells + mc1) (slots + ms1) r' h' nx' (pc + 3) L (v.toList ++ st)) : J G (cc, own, nL, ret, nm, R, xt) Q mc ms cells slots r h nx pc L stk := by
  intro p e s m args below meth c E H locs ls hH hlo hL
  obtain ⟨hx, hb, hr, hlk, hnm, hml, hown, hts, hK, hxt⟩ := id E
  subst hst
  obtain ⟨p1, p2, p3, p4, p5⟩ := hpm
  refine j_run E hlo hL (va_runS ⟨hx, hb, hml, hown, hts⟩ (hM.met hQ) (va_cwS (rm := j_rm d1 mc1 ms1) n hts (lw_S hw hw2 p2 p1) rfl rfl rfl ⟨p3, p4, p5⟩ hR) ⟨j_blind, fun U hU hW => ⟨rfl, by rw [hU]; exact hH, hK.warm hW⟩⟩ rfl hn hL.1 rfl ?_ hd hf) kk
  show 2 * 0 + _ ≤ 8
  omega
/-- invokestatic of a nest mate's private method -/
theorem j_callSN {host : String} (hM : MC G y bytes maxL rt d1 mc1 ms1 As r h nx Q1) (hQ : j_isR Q1) (hd : decode cc pc = .ok (.invokestatic index, 3)) (hpm : j_pm y bytes maxL rt n) (hw : ∀ s : State, G.2.2.2.2.2 s → va_Nw (Cond.methodLinkNest own index y host) s) (hw2 : Cond.static y ∈ lw_all) (hst : stk = As.reverse ++ st) (hR : d1 + 1 ≤ R.frames ∧ 8 + (maxL + 11) + 64 * d1 ≤ R.locals) (hf : cells + mc1 ≤ R.cells ∧ slots + ms1 ≤ R.slots) (hn : As.length = n) (hcat : (st.map fun v => v.category).sum ≤ 8)
    (kk : ∀ v r' h' nx', Q1 (.returned v) r' h' nx' → J G (cc, own, nL, ret, nm, R, xt) Q mc ms (cells + mc1) (slots + ms1) r' h' nx' (pc + 3) L (v.toList ++ st)) : J G (cc, own, nL, ret, nm, R, xt) Q mc ms cells slots r h nx pc L stk := by
  intro p e s m args below meth c E H locs ls hH hlo hL
  obtain ⟨hx, hb, hr, hlk, hnm, hml, hown, hts, hK, hxt⟩ := id E
  subst hst
  obtain ⟨p1, p2, p3, p4, p5⟩ := hpm
  refine j_run E hlo hL (va_runSN ⟨hx, hb, hml, hown, hts⟩ (hM.met hQ) ⟨va_cnB (rm := j_rm d1 mc1 ms1) n hts (lw_meth p1) rfl rfl rfl (hw s hK.2.1) (hts _ p2) ⟨p3, p4, p5⟩ hR, hts _ hw2, trivial⟩ ⟨j_blind, fun U hU hW => ⟨rfl, by rw [hU]; exact hH, hK.warm hW⟩⟩ rfl hn hL.1 rfl ?_ hd hf) kk
  show 2 * 0 + _ ≤ 8
  omega
/-- a constructor -/
theorem j_callI {b : Nat} (hM : MC G y bytes maxL none d1 mc1 ms1 (.ref b :: As) r h nx Q1) (hQ : j_isR Q1) (hd : decode cc pc = .ok (.invokespecial index, 3)) (hpm : j_pm y bytes maxL none n) (hw : Cond.methodLink own index y ∈ lw_all) (hw2 : Cond.instanceMethod y ∈ lw_all) (hyn : y.name = "<init>") (hst : stk = As.reverse ++ .ref b :: st) (hR : d1 + 1 ≤ R.frames ∧ 8 + (maxL + 11) + 64 * d1 ≤ R.locals) (hf : cells + mc1 ≤ R.cells ∧ slots + ms1 ≤ R.slots) (hn : As.length = n) (hcat : (st.map fun v => v.category).sum ≤ 8)
    (kk : ∀ v r' h' nx', Q1 (.returned v) r' h' nx' → J G (cc, own, nL, ret, nm, R, xt) Q mc ms (cells + mc1) (slots + ms1) r' h' nx' (pc + 3) L (v.toList ++ st)) : J G (cc, own, nL, ret, nm, R, xt) Q mc ms cells slots r h nx pc L stk := by
  intro p e s m args below meth c E H locs ls hH hlo hL
  obtain ⟨hx, hb, hr, hlk, hnm, hml, hown, hts, hK, hxt⟩ := id E
  subst hst
  obtain ⟨p1, p2, p3, p4, p5⟩ := hpm
  refine j_run E hlo hL (va_runI ⟨hx, hb, hml, hown, hts⟩ (hM.met hQ) (cwI (rm := j_rm d1 mc1 ms1) n hts (lw_meth p1) rfl rfl rfl (hts _ p2) (hts _ hw) (hts _ hw2) hyn ⟨p3, p4, p5⟩ hR) ⟨j_blind, fun U hU hW => ⟨rfl, by rw [hU]; exact hH, hK.warm hW⟩⟩ rfl hn hL.1 rfl ?_ hd hf) kk
  show 2 * 0 + _ ≤ 8
  omega
/-- a nest mate's private constructor -/
theorem j_callIN {b : Nat} {host : String} (hM : MC G y bytes maxL none d1 mc1 ms1 (.ref b :: As) r h nx Q1) (hQ : j_isR Q1) (hd : decode cc pc = .ok (.invokespecial index, 3)) (hpm : j_pm y bytes maxL none n) (hw : ∀ s : State, G.2.2.2.2.2 s → va_Nw (Cond.methodLinkNest own index y host) s) (hw2 : Cond.instanceMethod y ∈ lw_all) (hyn : y.name = "<init>") (hst : stk = As.reverse ++ .ref b :: st) (hR : d1 + 1 ≤ R.frames ∧ 8 + (maxL + 11) + 64 * d1 ≤ R.locals) (hf : cells + mc1 ≤ R.cells ∧ slots + ms1 ≤ R.slots) (hn : As.length = n) (hcat : (st.map fun v => v.category).sum ≤ 8)
    (kk : ∀ v r' h' nx', Q1 (.returned v) r' h' nx' → J G (cc, own, nL, ret, nm, R, xt) Q mc ms (cells + mc1) (slots + ms1) r' h' nx' (pc + 3) L (v.toList ++ st)) : J G (cc, own, nL, ret, nm, R, xt) Q mc ms cells slots r h nx pc L stk := by
  intro p e s m args below meth c E H locs ls hH hlo hL
  obtain ⟨hx, hb, hr, hlk, hnm, hml, hown, hts, hK, hxt⟩ := id E
  subst hst
  obtain ⟨p1, p2, p3, p4, p5⟩ := hpm
  refine j_run E hlo hL (va_runIN ⟨hx, hb, hml, hown, hts⟩ (hM.met hQ) ⟨va_cnB (rm := j_rm d1 mc1 ms1) n hts (lw_meth p1) rfl rfl rfl (hw s hK.2.1) (hts _ p2) ⟨p3, p4, p5⟩ hR, hyn, hts _ hw2⟩ ⟨j_blind, fun U hU hW => ⟨rfl, by rw [hU]; exact hH, hK.warm hW⟩⟩ rfl hn hL.1 rfl ?_ hd hf) kk
  show 2 * 0 + _ ≤ 8
  omega
/-- invokevirtual of an abstract method x: the receiver's class selects y -/
theorem j_callA {x : MethodName} {owner : String} (hM : MC G y bytes maxL rt d1 mc1 ms1 (.ref (r i) :: As) r h nx Q1) (hQ : j_isR Q1) (hd : decode cc pc = .ok (.invokevirtual index, 3)) (hpm : j_pm y bytes maxL rt n) (hw : Cond.methodLink own index x ∈ lw_all) (hw1 : Cond.sameMethod x.cls owner x.name x.desc ∈ lw_all) (hw2 : Cond.instanceMethod y ∈ lw_all) (hw3 : Cond.selects q0.1 x y ∈ lw_all) (hz : ∀ s : State, G.2.2.2.2.2 s → va_Nw (.declares ⟨owner, x.name, x.desc⟩) s) (hdx : owner ≠ "java/lang/invoke/MethodHandle" ∧ owner ≠ "java/lang/invoke/VarHandle" ∧ (parseMethodDescriptor x.desc).map (fun d => d.parameters.length) = some n) (hi : h i = some (.inr (ci, fs))) (hc : G.2.2.1[ci]? = some q0) (hst : stk = As.reverse ++ .ref (r i) :: st) (hR : d1 + 1 ≤ R.frames ∧ 8 + (maxL + 11) + 64 * d1 ≤ R.locals) (hf : cells + mc1 ≤ R.cells ∧ slots + ms1 ≤ R.slots) (hn : As.length = n) (hcat : (st.map fun v => v.category).sum ≤ 8)
    (kk : ∀ v r' h' nx', Q1 (.returned v) r' h' nx' → J G (cc, own, nL, ret, nm, R, xt) Q mc ms (cells + mc1) (slots + ms1) r' h' nx' (pc + 3) L (v.toList ++ st)) : J G (cc, own, nL, ret, nm, R, xt) Q mc ms cells slots r h nx pc L stk := by
  intro p e s m args below meth c E H locs ls hH hlo hL
  obtain ⟨hx, hb, hr, hlk, hnm, hml, hown, hts, hK, hxt⟩ := id E
  subst hst
  obtain ⟨p1, p2, p3, p4, p5⟩ := hpm
  have hg : GoodIn lw_all (va_wsU own index q0.1 owner x y (ws_ y bytes maxL rt)) := by
    refine lw_app ?_ (lw_meth p1)
    intro w hw'
    simp only [List.mem_cons, List.not_mem_nil, or_false] at hw'
    rcases hw' with rfl | rfl | rfl | rfl | rfl
    · exact hw
    · exact hw1
    · exact hw3
    · exact hw2
    · exact p2
  refine j_run E hlo hL (va_runU (C := q0.1) (owner := owner) ⟨hx, hb, hml, hown, hts⟩ (hM.met hQ) (va_cwA (rm := j_rm d1 mc1 ms1) n hts hg rfl rfl rfl (hz s hK.2.1) hdx hR) ⟨j_blind, va_recv hK.1 (hH.P1 hi) hc (q0 := 0) rfl, fun U hU hW => ⟨rfl, by rw [hU]; exact hH, hK.warm hW⟩⟩ rfl hn hL.1 rfl ?_ hd hf) kk
  show 2 * 0 + _ ≤ 8
  omega
/-- invokevirtual of a method x that the class of the receiver inherits or overrides: y is run; owner's x is the one that the reference finds -/
theorem j_callO {x : MethodName} {owner : String} {b0 : ByteArray} {m0 : Nat} {r0 : Option FieldType} (hM : MC G y bytes maxL rt d1 mc1 ms1 (.ref (r i) :: As) r h nx Q1) (hQ : j_isR Q1) (hd : decode cc pc = .ok (.invokevirtual index, 3)) (hpm : j_pm y bytes maxL rt n) (hw : Cond.methodLink own index x ∈ lw_all) (hw1 : Cond.sameMethod x.cls owner x.name x.desc ∈ lw_all) (hw0 : Cond.instanceMethod ⟨owner, x.name, x.desc⟩ ∈ lw_all) (hw4 : Cond.code ⟨owner, x.name, x.desc⟩ b0 m0 r0 ∈ lw_all) (hw2 : Cond.instanceMethod y ∈ lw_all) (hw3 : Cond.selects q0.1 x y ∈ lw_all) (hdx : owner ≠ "java/lang/invoke/MethodHandle" ∧ owner ≠ "java/lang/invoke/VarHandle" ∧ (parseMethodDescriptor x.desc).map (fun d => d.parameters.length) = some n) (hi : h i = some (.inr (ci, fs))) (hc : G.2.2.1[ci]? = some q0) (hst : stk = As.reverse ++ .ref (r i) :: st) (hR : d1 + 1 ≤ R.frames ∧ 8 + (maxL + 11) + 64 * d1 ≤ R.locals) (hf : cells + mc1 ≤ R.cells ∧ slots + ms1 ≤ R.slots) (hn : As.length = n) (hcat : (st.map fun v => v.category).sum ≤ 8)
    (kk : ∀ v r' h' nx', Q1 (.returned v) r' h' nx' → J G (cc, own, nL, ret, nm, R, xt) Q mc ms (cells + mc1) (slots + ms1) r' h' nx' (pc + 3) L (v.toList ++ st)) : J G (cc, own, nL, ret, nm, R, xt) Q mc ms cells slots r h nx pc L stk := by
  intro p e s m args below meth c E H locs ls hH hlo hL
  obtain ⟨hx, hb, hr, hlk, hnm, hml, hown, hts, hK, hxt⟩ := id E
  subst hst
  obtain ⟨p1, p2, p3, p4, p5⟩ := hpm
  have hg : GoodIn lw_all (va_wsO own index q0.1 owner x y (ws_ y bytes maxL rt)) := by
    refine lw_app ?_ (lw_meth p1)
    intro w hw'
    simp only [List.mem_cons, List.not_mem_nil, or_false] at hw'
    rcases hw' with rfl | rfl | rfl | rfl | rfl | rfl
    · exact hw
    · exact hw1
    · exact hw0
    · exact hw3
    · exact hw2
    · exact p2
  refine j_run E hlo hL (va_runU (C := q0.1) (owner := owner) ⟨hx, hb, hml, hown, hts⟩ (hM.met hQ) (va_cwO (rm := j_rm d1 mc1 ms1) n hts hg rfl rfl rfl hw4 hdx hR) ⟨j_blind, va_recv hK.1 (hH.P1 hi) hc (q0 := 0) rfl, fun U hU hW => ⟨rfl, by rw [hU]; exact hH, hK.warm hW⟩⟩ rfl hn hL.1 rfl ?_ hd hf) kk
  show 2 * 0 + _ ≤ 8
  omega
/-- super.y(..) -/
theorem j_callU (hM : MC G y bytes maxL rt d1 mc1 ms1 (.ref (r i) :: As) r h nx Q1) (hQ : j_isR Q1) (hd : decode cc pc = .ok (.invokespecial index, 3)) (hpm : j_pm y bytes maxL rt n) (hw : Cond.methodLink own index y ∈ lw_all) (hw1 : Cond.sameMethod y.cls y.cls y.name y.desc ∈ lw_all) (hw2 : Cond.superclass own y.cls ∈ lw_all) (hw3 : Cond.instanceMethod y ∈ lw_all) (hyn : y.name ≠ "<init>") (hi : h i = some (.inr (ci, fs))) (hc : G.2.2.1[ci]? = some q0) (hst : stk = As.reverse ++ .ref (r i) :: st) (hR : d1 + 1 ≤ R.frames ∧ 8 + (maxL + 11) + 64 * d1 ≤ R.locals) (hf : cells + mc1 ≤ R.cells ∧ slots + ms1 ≤ R.slots) (hn : As.length = n) (hcat : (st.map fun v => v.category).sum ≤ 8)
    (kk : ∀ v r' h' nx', Q1 (.returned v) r' h' nx' → J G (cc, own, nL, ret, nm, R, xt) Q mc ms (cells + mc1) (slots + ms1) r' h' nx' (pc + 3) L (v.toList ++ st)) : J G (cc, own, nL, ret, nm, R, xt) Q mc ms cells slots r h nx pc L stk := by
  intro p e s m args below meth c E H locs ls hH hlo hL
  obtain ⟨hx, hb, hr, hlk, hnm, hml, hown, hts, hK, hxt⟩ := id E
  subst hst
  obtain ⟨p1, p2, p3, p4, p5⟩ := hpm
  have hg : GoodIn lw_all (va_wsSU own index y (ws_ y bytes maxL rt)) := by
    refine lw_app ?_ (lw_meth p1)
    intro w hw'
    simp only [List.mem_cons, List.not_mem_nil, or_false] at hw'
    rcases hw' with rfl | rfl | rfl | rfl | rfl
    · exact hw
    · exact hw1
    · exact hw2
    · exact hw3
    · exact p2
  refine j_run E hlo hL (va_runSU (C := q0.1) (hK.1.1 ci _ hc).2 ⟨hx, hb, hml, hown, hts⟩ (hM.met hQ) (va_cwSU (rm := j_rm d1 mc1 ms1) n hts hg rfl rfl rfl ⟨hyn, p5⟩ hR) ⟨j_blind, va_recv hK.1 (hH.P1 hi) hc (q0 := 0) rfl, fun U hU hW => ⟨rfl, by rw [hU]; exact hH, hK.warm hW⟩⟩ rfl hn hL.1 rfl ?_ hd hf) kk
  show 2 * 0 + _ ≤ 8
  omega
end JC
