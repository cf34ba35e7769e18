set_option maxRecDepth 100000
def q_ring (r : Nat → Nat) (dT : Nat → ClassId) (g : j_H) (kI : Int32) (bs fg m nk : Nat) (a : A4) (F : Nat → Nat) (tk : Int64) (V : Nat → Nat → Int32) (nx N : Nat) (c : Nat → Option Nat) (R : Nat → List Nat) (fr : Nat → Int32) : j_Q := fun o r' h' nx' => o = .returned none ∧ r' = r ∧ nx' = nx ∧ ∃ ln mo hd : Nat → Int32, h' = (mdS r dT g kI bs fg m nk a.1 a.2.1 a.2.2.1 a.2.2.2 F tk (vo V [(109, fr), (110, ln), (112, mo), (115, hd)])) ∧ RGd N c R hd ln mo
theorem q_ring.isR {r : Nat → Nat} {dT : Nat → ClassId} {g : j_H} {kI : Int32} {bs fg m nk : Nat} {a : A4} {F : Nat → Nat} {tk : Int64} {V : Nat → Nat → Int32} {nx N : Nat} {c : Nat → Option Nat} {R : Nat → List Nat} {fr : Nat → Int32} : j_isR (q_ring r dT g kI bs fg m nk a F tk V nx N c R fr) := fun _ _ _ _ hq => ⟨_, hq.1⟩
set_option maxHeartbeats 4000000 in
theorem m_putIn {l : Launch} {D : va_G} {dT : Nat → ClassId} {H0 : Heap} {r : Nat → Nat} {nx : Nat} {g : j_H} {kI : Int32} {bs fg m nk : Nat} {a : A4} {F : Nat → Nat} {tk : Int64} {V : Nat → Nat → Int32} {N : Nat} {c : Nat → Option Nat} {R : Nat → List Nat} {fr ln mo hd : Nat → Int32} (hN : N ≤ 80000) (hR : RGd N c R hd ln mo) (s d : Nat) (hs : s < N) (hc : c s = some d) (hfr : fr s = nI d) (hd3 : d < 2 ^ 31) (hno : ∀ q, q < 100 → s ∉ R q) : MC (gG l D dT H0) yX3_putIn cX3_putIn 3 none 0 0 0 [.ref (r 100), .int (nI s)] r (mdS r dT g kI bs fg m nk a.1 a.2.1 a.2.2.1 a.2.2.2 F tk (vo V [(109, fr), (110, ln), (112, mo), (115, hd)])) nx (q_ring r dT g kI bs fg m nk a F tk V nx N c (va_up R (d % 100) (s :: R (d % 100))) fr) := by
  have hq0 : d % 100 < 100 := Nat.mod_lt _ (by decide)
  have hs8 : s < 80000 := by omega
  refine MC.ofJ [some (.ref (r 100)), some (.int (nI s)), none] rfl (Nat.le_of_ble_eq_true rfl) (by decide) ?_
  refine j_aload_n dX3_putIn_0 rfl ?_
  refine j_get 34 dX3_putIn_1 (by first | rfl | assumption) in_X3 rfl (by decide) q1133 rfl ?_
  refine j_iload_n dX3_putIn_4 rfl ?_
  refine j_iald 0 s dX3_putIn_5 (by first | rfl | assumption) rfl rfl hs8 (by decide) ?_
  refine j_eqi hfr ?_
  refine j_bipush (v := 100) dX3_putIn_6 (by decide) ?_
  refine j_irem dX3_putIn_8 (by decide) ?_
  refine j_eqi (show _ = nI (d % 100) from pk_rem (d := 100) hd3 (by decide) (by decide)) ?_
  refine j_istore_n dX3_putIn_9 (by decide) rfl ?_
  refine j_aload_n dX3_putIn_10 rfl ?_
  refine j_get 35 dX3_putIn_11 (by first | rfl | assumption) in_X3 rfl (by decide) q1134 rfl ?_
  refine j_iload_n dX3_putIn_14 rfl ?_
  refine j_aload_n dX3_putIn_15 rfl ?_
  refine j_get 40 dX3_putIn_16 (by first | rfl | assumption) in_X3 rfl (by decide) q1139 rfl ?_
  refine j_iload_n dX3_putIn_19 rfl ?_
  refine j_iald 0 (d % 100) dX3_putIn_20 (by first | rfl | assumption) rfl rfl hq0 (by decide) ?_
  refine j_iast 0 s dX3_putIn_21 (by first | rfl | assumption) rfl rfl hs8 (by decide) ?_
  refine j_mdW (f := _) (by decide) (by decide) rfl ?_
  refine j_aload_n dX3_putIn_22 rfl ?_
  refine j_get 37 dX3_putIn_23 (by first | rfl | assumption) in_X3 rfl (by decide) q1136 rfl ?_
  refine j_iload_n dX3_putIn_26 rfl ?_
  refine j_iconst (v := (-1)) dX3_putIn_27 (by decide) ?_
  refine j_iast 0 s dX3_putIn_28 (by first | rfl | assumption) rfl rfl hs8 (by decide) ?_
  refine j_mdW (f := _) (by decide) (by decide) rfl ?_
  refine j_aload_n dX3_putIn_29 rfl ?_
  refine j_get 40 dX3_putIn_30 (by first | rfl | assumption) in_X3 rfl (by decide) q1139 rfl ?_
  refine j_iload_n dX3_putIn_33 rfl ?_
  refine j_iald 0 (d % 100) dX3_putIn_34 (by first | rfl | assumption) rfl rfl hq0 (by decide) ?_
  refine j_iconst (v := (-1)) dX3_putIn_35 (by decide) ?_
  refine j_icmp_eq (tgt := 51) dX3_putIn_36 (by decide) (fun c36 => ?_) (fun c36 => ?_)
  · skip
    have hRe := hR.nil hN hq0 c36
    have hP : RGd N c (va_up R (d % 100) (s :: R (d % 100))) (upd hd (d % 100) (nI s)) (upd ln s (hd (d % 100))) (upd mo s (-1)) := by
      have h9 := hR.put hs hc hno
      rw [show moN (upd mo s (-1)) (nI s) (R (d % 100)) = upd mo s (-1) by rw [hRe]; rfl] at h9
      exact h9
    refine j_aload_n dX3_putIn_51 rfl ?_
    refine j_get 40 dX3_putIn_52 (by first | rfl | assumption) in_X3 rfl (by decide) q1139 rfl ?_
    refine j_iload_n dX3_putIn_55 rfl ?_
    refine j_iload_n dX3_putIn_56 rfl ?_
    refine j_iast 0 (d % 100) dX3_putIn_57 (by first | rfl | assumption) rfl rfl hq0 (by decide) ?_
    refine j_mdW (f := _) (by decide) (by decide) rfl ?_
    refine j_vret dX3_putIn_58 rfl (Nat.le_refl _) (Nat.le_refl _) ?_
    exact ⟨rfl, rfl, rfl, _, _, _, rfl, hP⟩
  · skip
    obtain ⟨b, l9, hRe, hbe, hbN⟩ := hR.cons hq0 c36
    have hP : RGd N c (va_up R (d % 100) (s :: R (d % 100))) (upd hd (d % 100) (nI s)) (upd ln s (hd (d % 100))) (upd (upd mo s (-1)) b (nI s)) := by
      have h9 := hR.put hs hc hno
      rw [show moN (upd mo s (-1)) (nI s) (R (d % 100)) = upd (upd mo s (-1)) b (nI s) by rw [hRe]; rfl] at h9
      exact h9
    refine j_aload_n dX3_putIn_39 rfl ?_
    refine j_get 37 dX3_putIn_40 (by first | rfl | assumption) in_X3 rfl (by decide) q1136 rfl ?_
    refine j_aload_n dX3_putIn_43 rfl ?_
    refine j_get 40 dX3_putIn_44 (by first | rfl | assumption) in_X3 rfl (by decide) q1139 rfl ?_
    refine j_iload_n dX3_putIn_47 rfl ?_
    refine j_iald 0 (d % 100) dX3_putIn_48 (by first | rfl | assumption) rfl rfl hq0 (by decide) ?_
    refine j_eqi hbe ?_
    refine j_iload_n dX3_putIn_49 rfl ?_
    refine j_iast 0 b dX3_putIn_50 (by first | rfl | assumption) rfl rfl (by show b < 80000; omega) (by decide) ?_
    refine j_mdW (f := _) (by decide) (by decide) rfl ?_
    refine j_aload_n dX3_putIn_51 rfl ?_
    refine j_get 40 dX3_putIn_52 (by first | rfl | assumption) in_X3 rfl (by decide) q1139 rfl ?_
    refine j_iload_n dX3_putIn_55 rfl ?_
    refine j_iload_n dX3_putIn_56 rfl ?_
    refine j_iast 0 (d % 100) dX3_putIn_57 (by first | rfl | assumption) rfl rfl hq0 (by decide) ?_
    refine j_mdW (f := _) (by decide) (by decide) rfl ?_
    refine j_vret dX3_putIn_58 rfl (Nat.le_refl _) (Nat.le_refl _) ?_
    exact ⟨rfl, rfl, rfl, _, _, _, rfl, hP⟩
set_option maxHeartbeats 4000000 in
theorem m_takeOut {l : Launch} {D : va_G} {dT : Nat → ClassId} {H0 : Heap} {r : Nat → Nat} {nx : Nat} {g : j_H} {kI : Int32} {bs fg m nk : Nat} {a : A4} {F : Nat → Nat} {tk : Int64} {V : Nat → Nat → Int32} {N : Nat} {c : Nat → Option Nat} {R : Nat → List Nat} {fr ln mo hd : Nat → Int32} (hN : N ≤ 80000) (hR : RGd N c R hd ln mo) (s d : Nat) (hs : s < N) (hc : c s = some d) (hfr : fr s = nI d) (hd3 : d < 2 ^ 31) (hin : s ∈ R (d % 100)) : MC (gG l D dT H0) yX3_takeOut cX3_takeOut 2 none 0 0 0 [.ref (r 100), .int (nI s)] r (mdS r dT g kI bs fg m nk a.1 a.2.1 a.2.2.1 a.2.2.2 F tk (vo V [(109, fr), (110, ln), (112, mo), (115, hd)])) nx (q_ring r dT g kI bs fg m nk a F tk V nx N c (va_up R (d % 100) ((R (d % 100)).erase s)) fr) := by
  have hq0 : d % 100 < 100 := Nat.mod_lt _ (by decide)
  have hs8 : s < 80000 := by omega
  obtain ⟨B, hB, hb, ho⟩ := hR.take hN hc hin
  refine MC.ofJ [some (.ref (r 100)), some (.int (nI s))] rfl (Nat.le_of_ble_eq_true rfl) (by decide) ?_
  refine j_aload_n dX3_takeOut_0 rfl ?_
  refine j_get 37 dX3_takeOut_1 (by first | rfl | assumption) in_X3 rfl (by decide) q1136 rfl ?_
  refine j_iload_n dX3_takeOut_4 rfl ?_
  refine j_iald 0 s dX3_takeOut_5 (by first | rfl | assumption) rfl rfl hs8 (by decide) ?_
  refine j_iconst (v := (-1)) dX3_takeOut_6 (by decide) ?_
  refine j_icmp_ne (tgt := 33) dX3_takeOut_7 (by decide) (fun c7 => ?_) (fun c7 => ?_)
  · skip
    obtain ⟨z, hz, has, hmo, hP⟩ : ∃ a, a < N ∧ a ≠ s ∧ mo s = nI a ∧ RGd N c (va_up R (d % 100) ((R (d % 100)).erase s)) hd (upd ln a (ln s)) (moN mo (nI a) B) := by
      rcases ho with ⟨q, _⟩ | q
      · exact absurd q c7
      · exact q
    refine j_aload_n dX3_takeOut_33 rfl ?_
    refine j_get 35 dX3_takeOut_34 (by first | rfl | assumption) in_X3 rfl (by decide) q1134 rfl ?_
    refine j_aload_n dX3_takeOut_37 rfl ?_
    refine j_get 37 dX3_takeOut_38 (by first | rfl | assumption) in_X3 rfl (by decide) q1136 rfl ?_
    refine j_iload_n dX3_takeOut_41 rfl ?_
    refine j_iald 0 s dX3_takeOut_42 (by first | rfl | assumption) rfl rfl hs8 (by decide) ?_
    refine j_eqi hmo ?_
    refine j_aload_n dX3_takeOut_43 rfl ?_
    refine j_get 35 dX3_takeOut_44 (by first | rfl | assumption) in_X3 rfl (by decide) q1134 rfl ?_
    refine j_iload_n dX3_takeOut_47 rfl ?_
    refine j_iald 0 s dX3_takeOut_48 (by first | rfl | assumption) rfl rfl hs8 (by decide) ?_
    refine j_iast 0 z dX3_takeOut_49 (by first | rfl | assumption) rfl rfl (by show z < 80000; omega) (by decide) ?_
    refine j_mdW (f := _) (by decide) (by decide) rfl ?_
    refine j_aload_n dX3_takeOut_50 rfl ?_
    refine j_get 35 dX3_takeOut_51 (by first | rfl | assumption) in_X3 rfl (by decide) q1134 rfl ?_
    refine j_iload_n dX3_takeOut_54 rfl ?_
    refine j_iald 0 s dX3_takeOut_55 (by first | rfl | assumption) rfl rfl hs8 (by decide) ?_
    refine j_eqi (pk_un (fun e => has e.symm)) ?_
    refine j_iconst (v := (-1)) dX3_takeOut_56 (by decide) ?_
    refine j_icmp_eq (tgt := 77) dX3_takeOut_57 (by decide) (fun c57 => ?_) (fun c57 => ?_)
    · skip
      have hBe : B = [] := by
        rcases hb with ⟨q, _⟩ | ⟨b, B', q1, q2⟩
        · exact q
        · have hbN := hB b (by rw [q1]; exact List.mem_cons_self)
          exact absurd (q2.symm.trans c57) (nI_m1 (by omega))
      subst hBe
      refine j_vret dX3_takeOut_77 rfl (Nat.le_refl _) (Nat.le_refl _) ?_
      exact ⟨rfl, rfl, rfl, _, _, _, rfl, hP⟩
    · skip
      obtain ⟨b, B', hBe, hlb⟩ : ∃ b B', B = b :: B' ∧ ln s = nI b := by
        rcases hb with ⟨_, q⟩ | q
        · exact absurd q c57
        · exact q
      have hbN := hB b (by rw [hBe]; exact List.mem_cons_self)
      subst hBe
      refine j_aload_n dX3_takeOut_60 rfl ?_
      refine j_get 37 dX3_takeOut_61 (by first | rfl | assumption) in_X3 rfl (by decide) q1136 rfl ?_
      refine j_aload_n dX3_takeOut_64 rfl ?_
      refine j_get 35 dX3_takeOut_65 (by first | rfl | assumption) in_X3 rfl (by decide) q1134 rfl ?_
      refine j_iload_n dX3_takeOut_68 rfl ?_
      refine j_iald 0 s dX3_takeOut_69 (by first | rfl | assumption) rfl rfl hs8 (by decide) ?_
      refine j_eqi (pk_un (fun e => has e.symm)) ?_
      refine j_eqi hlb ?_
      refine j_aload_n dX3_takeOut_70 rfl ?_
      refine j_get 37 dX3_takeOut_71 (by first | rfl | assumption) in_X3 rfl (by decide) q1136 rfl ?_
      refine j_iload_n dX3_takeOut_74 rfl ?_
      refine j_iald 0 s dX3_takeOut_75 (by first | rfl | assumption) rfl rfl hs8 (by decide) ?_
      refine j_eqi hmo ?_
      refine j_iast 0 b dX3_takeOut_76 (by first | rfl | assumption) rfl rfl (by show b < 80000; omega) (by decide) ?_
      refine j_mdW (f := _) (by decide) (by decide) rfl ?_
      refine j_vret dX3_takeOut_77 rfl (Nat.le_refl _) (Nat.le_refl _) ?_
      exact ⟨rfl, rfl, rfl, _, _, _, rfl, hP⟩
  · skip
    have hP : RGd N c (va_up R (d % 100) ((R (d % 100)).erase s)) (upd hd (d % 100) (ln s)) ln (moN mo (-1) B) := by
      rcases ho with ⟨_, q⟩ | ⟨z, hz, _, q, _⟩
      · exact q
      · exact absurd (q.symm.trans c7) (nI_m1 (by omega))
    refine j_aload_n dX3_takeOut_10 rfl ?_
    refine j_get 40 dX3_takeOut_11 (by first | rfl | assumption) in_X3 rfl (by decide) q1139 rfl ?_
    refine j_aload_n dX3_takeOut_14 rfl ?_
    refine j_get 34 dX3_takeOut_15 (by first | rfl | assumption) in_X3 rfl (by decide) q1133 rfl ?_
    refine j_iload_n dX3_takeOut_18 rfl ?_
    refine j_iald 0 s dX3_takeOut_19 (by first | rfl | assumption) rfl rfl hs8 (by decide) ?_
    refine j_eqi hfr ?_
    refine j_bipush (v := 100) dX3_takeOut_20 (by decide) ?_
    refine j_irem dX3_takeOut_22 (by decide) ?_
    refine j_eqi (show _ = nI (d % 100) from pk_rem (d := 100) hd3 (by decide) (by decide)) ?_
    refine j_aload_n dX3_takeOut_23 rfl ?_
    refine j_get 35 dX3_takeOut_24 (by first | rfl | assumption) in_X3 rfl (by decide) q1134 rfl ?_
    refine j_iload_n dX3_takeOut_27 rfl ?_
    refine j_iald 0 s dX3_takeOut_28 (by first | rfl | assumption) rfl rfl hs8 (by decide) ?_
    refine j_iast 0 (d % 100) dX3_takeOut_29 (by first | rfl | assumption) rfl rfl hq0 (by decide) ?_
    refine j_mdW (f := _) (by decide) (by decide) rfl ?_
    refine j_goto (tgt := 50) dX3_takeOut_30 (by decide) ?_
    refine j_aload_n dX3_takeOut_50 rfl ?_
    refine j_get 35 dX3_takeOut_51 (by first | rfl | assumption) in_X3 rfl (by decide) q1134 rfl ?_
    refine j_iload_n dX3_takeOut_54 rfl ?_
    refine j_iald 0 s dX3_takeOut_55 (by first | rfl | assumption) rfl rfl hs8 (by decide) ?_
    
    refine j_iconst (v := (-1)) dX3_takeOut_56 (by decide) ?_
    refine j_icmp_eq (tgt := 77) dX3_takeOut_57 (by decide) (fun c57 => ?_) (fun c57 => ?_)
    · skip
      have hBe : B = [] := by
        rcases hb with ⟨q, _⟩ | ⟨b, B', q1, q2⟩
        · exact q
        · have hbN := hB b (by rw [q1]; exact List.mem_cons_self)
          exact absurd (q2.symm.trans c57) (nI_m1 (by omega))
      subst hBe
      refine j_vret dX3_takeOut_77 rfl (Nat.le_refl _) (Nat.le_refl _) ?_
      exact ⟨rfl, rfl, rfl, _, _, _, rfl, hP⟩
    · skip
      obtain ⟨b, B', hBe, hlb⟩ : ∃ b B', B = b :: B' ∧ ln s = nI b := by
        rcases hb with ⟨_, q⟩ | q
        · exact absurd q c57
        · exact q
      have hbN := hB b (by rw [hBe]; exact List.mem_cons_self)
      subst hBe
      refine j_aload_n dX3_takeOut_60 rfl ?_
      refine j_get 37 dX3_takeOut_61 (by first | rfl | assumption) in_X3 rfl (by decide) q1136 rfl ?_
      refine j_aload_n dX3_takeOut_64 rfl ?_
      refine j_get 35 dX3_takeOut_65 (by first | rfl | assumption) in_X3 rfl (by decide) q1134 rfl ?_
      refine j_iload_n dX3_takeOut_68 rfl ?_
      refine j_iald 0 s dX3_takeOut_69 (by first | rfl | assumption) rfl rfl hs8 (by decide) ?_
      refine j_eqi hlb ?_
      refine j_aload_n dX3_takeOut_70 rfl ?_
      refine j_get 37 dX3_takeOut_71 (by first | rfl | assumption) in_X3 rfl (by decide) q1136 rfl ?_
      refine j_iload_n dX3_takeOut_74 rfl ?_
      refine j_iald 0 s dX3_takeOut_75 (by first | rfl | assumption) rfl rfl hs8 (by decide) ?_
      refine j_eqi c7 ?_
      refine j_iast 0 b dX3_takeOut_76 (by first | rfl | assumption) rfl rfl (by show b < 80000; omega) (by decide) ?_
      refine j_mdW (f := _) (by decide) (by decide) rfl ?_
      refine j_vret dX3_takeOut_77 rfl (Nat.le_refl _) (Nat.le_refl _) ?_
      exact ⟨rfl, rfl, rfl, _, _, _, rfl, hP⟩
