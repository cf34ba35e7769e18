set_option maxRecDepth 100000
/-- a private method is chosen whatever class of objects it is called on -/
theorem sel_priv {C : String} {y : MethodName} {s : State} {args : Array Value} {n : Nat} (hy : y.cls ≠ "java/lang/invoke/MethodHandle" ∧ y.cls ≠ "java/lang/invoke/VarHandle") (hins : (Cond.instantiable C n).before args s = true) (hpriv : (Cond.privateMethod y).before args s = true) (hinst : (Cond.instanceMethod y).before args s = true) (hsame : (Cond.sameMethod y.cls y.cls y.name y.desc).before args s = true) : (Cond.selects C y y).before args s = true := by
  obtain ⟨c, k, hc, hk, -, -, -, -⟩ := Cond.instantiable_spec hins
  obtain ⟨mk, methM, hnamed, hmethM, -, -⟩ := Cond.instanceMethod_spec hinst
  have hfound : s.methodFound? y.cls y.name y.desc = some mk := State.methodFound?_of_named hnamed hy
  obtain ⟨-, k2, hk2, hni⟩ := Cond.sameMethod_spec (findClass_of_methodNamed hnamed) hfound hsame
  have hsel : selectMethod {} s.vm c mk = .method mk := selectMethod_private hmethM (Cond.privateMethod_at hpriv mk methM hnamed hmethM)
  simp only [Cond.before, Cond.holds, Cond.value, hc, hfound, hnamed, hsel, hk2]
  simp; exact hni
section PRV
variable {G : j_G} {cc : ByteArray} {own : String} {nL : Nat} {ret : Option FieldType} {nm : String} {R : Room} {xt : Code → Prop} {Q Q1 : j_Q} {mc ms cells slots mc1 ms1 d1 : Nat} {r : Nat → Nat} {h : j_H} {nx pc i ci index maxL n N : Nat} {L : List (Option Value)} {st stk As : List Value} {y : MethodName} {bytes : ByteArray} {rt : Option FieldType} {fs : List Value} {q0 : vw_C}
/-- invokevirtual of a private method, on an object of a subclass -/
theorem j_callP (hM : MC G y bytes maxL rt d1 mc1 ms1 (.ref (r i) :: As) r h nx Q1) (hQ : j_isR Q1) (hd : decode cc pc = .ok (.invokevirtual index, 3)) (hpm : j_pm y bytes maxL rt n) (hw : Cond.methodLink own index y ∈ lw_all) (hw1 : Cond.sameMethod y.cls y.cls y.name y.desc ∈ lw_all) (hw2 : Cond.instanceMethod y ∈ lw_all) (hw3 : ∀ s : State, G.2.2.2.2.2 s → va_Nw (Cond.selects q0.1 y y) s) (hi : h i = some (.inr (ci, fs))) (hc : G.2.2.1[ci]? = some q0) (hst : stk = As.reverse ++ .ref (r i) :: st) (hR : d1 + 1 ≤ R.frames ∧ 8 + (maxL + 11) + 64 * d1 ≤ R.locals) (hf : cells + mc1 ≤ R.cells ∧ slots + ms1 ≤ R.slots) (hn : As.length = n) (hcat : (st.map fun v => v.category).sum ≤ 8)
    (kk : ∀ v r' h' nx', Q1 (.returned v) r' h' nx' → J G (cc, own, nL, ret, nm, R, xt) Q mc ms (cells + mc1) (slots + ms1) r' h' nx' (pc + 3) L (v.toList ++ st)) : J G (cc, own, nL, ret, nm, R, xt) Q mc ms cells slots r h nx pc L stk := by
  intro p e s m args below meth c E H locs ls hH hlo hL
  obtain ⟨hx, hb, hr, hlk, hnm, hml, hown, hts, hK, hxt⟩ := id E
  subst hst
  obtain ⟨p1, p2, p3, p4, p5⟩ := hpm
  have hG : GoodIn lw_all (ws_ y bytes maxL rt) := lw_meth p1
  have hcm : Cond.code y bytes maxL rt ∈ ws_ y bytes maxL rt := List.mem_cons_self
  have cw : va_CU R s args own q0.1 y.cls index y y bytes maxL rt (ws_ y bytes maxL rt) (j_rm d1 mc1 ms1) mc1 ms1 n := by
    refine ⟨⟨rfl, rfl, hR.1, hR.2, pay_in hts hG, hcm⟩, hts _ (hG _ hcm).1, hts _ p2, ⟨p3, p4⟩, fun sig h => ?_, hts _ hw, hts _ hw1, va_Decl.of (hts _ hw2) (hts _ (hG _ hcm).1), va_Nw.use (A := args) rfl (hw3 s hK.2.1), hts _ hw2⟩
    rw [h] at p5
    exact (Option.some.inj p5).symm
  refine j_run E hlo hL (va_runU (C := q0.1) (owner := y.cls) ⟨hx, hb, hml, hown, hts⟩ (hM.met hQ) cw ⟨j_blind, va_recv hK.1 (hH.P1 hi) hc (q0 := 0) rfl, fun U hU hW => ⟨rfl, by rw [hU]; exact hH, hK.warm hW⟩⟩ rfl hn hL.1 rfl ?_ hd hf) kk
  show 2 * 0 + _ ≤ 8
  omega
end PRV
theorem i2b_lo : ∀ c, c < 128 → vp_nar .byte ((nI c).toInt8.toInt32) = nI c := by decide +kernel
theorem i2c_lo : ∀ c, c < 128 → ((nI c).toUInt32 % 65536).toInt32 = nI c := by decide +kernel
set_option maxHeartbeats 4000000 in
theorem b_app0 {l : Launch} {D : va_G} {dT : Nat → ClassId} {H0 : Heap} {r : Nat → Nat} {h : j_H} {nx : Nat} {cp k : Nat} {f : Nat → Int32} (c : Nat) (hc : c < 128) (hk : k < cp) (hcp : cp < 2 ^ 30) : MC (gG l D dT H0) yJ0_append cJ0_append 2 (some (.object "java/lang/AbstractStringBuilder")) 2 0 0 [.ref (r 210), .int (nI c)] r (j_set (j_set h 211 (byC dT cp f)) 210 (sbC (r 211) k)) nx (jq_n 210 r (j_set (j_set h 211 (byC dT cp (upd f k (nI c)))) 210 (sbC (r 211) (k + 1))) nx) := by
  refine MC.ofJ [some (.ref (r 210)), some (.int (nI c))] rfl (Nat.le_of_ble_eq_true rfl) (by decide) ?_
  refine j_aload_n dJ0_append_0 rfl ?_
  refine j_aload_n dJ0_append_1 rfl ?_
  refine j_get 3 dJ0_append_2 j_set_self in_J1 rfl (by decide) q291 rfl ?_
  refine j_iconst (v := 1) dJ0_append_5 (by decide) ?_
  refine j_iadd dJ0_append_6 ?_
  refine j_eqi (show _ = nI (k + 1) from nI_1 k) ?_
  refine j_callP (b_ens0 (k + 1) (by omega) hcp) (fun _ _ _ _ hq => ⟨_, hq.1⟩) dJ0_append_7 pmJ0_ensureCapacityInternal q309 q1506 q311 (fun _ hs => hs.1 _ qnS1) j_set_self rfl rfl ⟨(Nat.le_of_ble_eq_true rfl), (Nat.le_of_ble_eq_true rfl)⟩ ⟨(Nat.le_of_ble_eq_true rfl), (Nat.le_of_ble_eq_true rfl)⟩ rfl (Nat.le_of_ble_eq_true rfl) ?_
  rintro v r' h' nx' ⟨e1, e2, e3, e4⟩
  obtain rfl := e2.symm
  obtain rfl := e3.symm
  obtain rfl := e4.symm
  cases e1
  refine j_aload_n dJ0_append_10 rfl ?_
  refine j_callOi b_latin dJ0_append_11 pmJ0_isLatin1 q344 q346 q345 q348 q345 q347 ⟨by decide, by decide, rfl⟩ j_set_self rfl rfl ⟨(Nat.le_of_ble_eq_true rfl), (Nat.le_of_ble_eq_true rfl)⟩ ⟨(Nat.le_of_ble_eq_true rfl), (Nat.le_of_ble_eq_true rfl)⟩ rfl (Nat.le_of_ble_eq_true rfl) ?_
  refine j_if_eq (tgt := 45) dJ0_append_14 (by decide) (fun c14 => absurd c14 (by decide)) (fun c14 => ?_)
  refine j_iload_n dJ0_append_17 rfl ?_
  refine j_callSi (b_can c (by omega)) dJ0_append_18 pmJ7_canEncode q349 q350 rfl ⟨Nat.le_of_ble_eq_true rfl, Nat.le_of_ble_eq_true rfl⟩ ⟨Nat.le_of_ble_eq_true rfl, Nat.le_of_ble_eq_true rfl⟩ rfl (Nat.le_of_ble_eq_true rfl) ?_
  refine j_if_eq (tgt := 45) dJ0_append_21 (by decide) (fun c21 => absurd c21 (by decide)) (fun c21 => ?_)
  refine j_aload_n dJ0_append_24 rfl ?_
  refine j_get 0 dJ0_append_25 j_set_self in_J1 rfl (by decide) q288 rfl ?_
  refine j_aload_n dJ0_append_28 rfl ?_
  refine j_dup dJ0_append_29 rfl ?_
  refine j_get 3 dJ0_append_30 j_set_self in_J1 rfl (by decide) q291 rfl ?_
  refine j_dup_x1 dJ0_append_33 rfl rfl ?_
  refine j_iconst (v := 1) dJ0_append_34 (by decide) ?_
  refine j_iadd dJ0_append_35 ?_
  refine j_eqi (show _ = nI (k + 1) from nI_1 k) ?_
  refine j_put 3 dJ0_append_36 j_set_self in_J1 tyJ1_ok nmJ1 rfl (by decide) q291 rfl rfl rfl (by first | decide | simp) ?_
  refine j_re rfl rfl (h' := (j_set (j_set h 211 (byC dT cp f)) 210 (sbC (r 211) (k + 1)))) j_set2 ?_
  refine j_iload_n dJ0_append_39 rfl ?_
  refine j_i2b dJ0_append_40 ?_
  refine j_bast 1 k dJ0_append_41 (by rw [j_set_ne (by decide)]; exact j_set_self) rfl rfl hk (by omega) ?_
  refine j_re rfl rfl (h' := (j_set (j_set h 211 (byC dT cp (upd f k (nI c)))) 210 (sbC (r 211) (k + 1)))) (by rw [i2b_lo c hc, j_set_comm _ _ _ (show (210 : Nat) ≠ 211 by decide), j_set2]; rfl) ?_
  refine j_goto (tgt := 75) dJ0_append_42 (by decide) ?_
  refine j_aload_n dJ0_append_75 rfl ?_
  refine j_aret dJ0_append_76 rfl (Or.inl ⟨_, rfl⟩) (Or.inr ⟨_, rfl⟩) (Nat.le_refl _) (Nat.le_refl _) ?_
  exact ⟨rfl, rfl, rfl, rfl⟩
