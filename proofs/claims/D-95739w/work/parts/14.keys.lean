set_option maxRecDepth 100000
/-- a stroke, on the numbers of states -/
def strk (kd bs m : Nat) (q : KY) (s : Nat) : Nat := encA m (stk kd bs m q (decA m s))
theorem strk_lt {kd bs m : Nat} {q : KY} {s : Nat} (hD : okD kd bs m) (hq : okK bs m q) (hs : s < 8 * m * m) : strk kd bs m q s < 8 * m * m := encA_lt (stk_ok hD hq (decA_ok (by have := hD.2.1; have := hD.2.2.2.1; omega) hs))
theorem mm_le {m : Nat} (h : m ≤ 100) : 8 * m * m ≤ 80000 := by
  have := Nat.mul_le_mul h h
  have e : 8 * m * m = 8 * (m * m) := Nat.mul_assoc _ _ _
  omega
/-- a key's cell; a: the dial's address -/
def kcell (a : Nat) (q : KY) : va_E :=
  if q.1 = 0 then .inr (8, [.ref a, .int (nI q.2.1), .int (nI q.2.2.1)])
  else if q.1 = 7 then .inr (12, [.ref a, .int (nI q.2.1), .int (nI q.2.2.1), .int (nI q.2.2.2)])
  else if q.1 = 4 then .inr (9, [.ref a, .int (nI q.2.1)])
  else if q.1 = 5 then .inr (10, [.ref a, .int (nI q.2.1)])
  else if q.1 = 6 then .inr (11, [.ref a, .int (nI q.2.1), .int (nI q.2.2.2), .int (nI q.2.2.1)])
  else .inr (13, [.ref a, .int (nI q.2.1), .int (nI q.1)])

set_option maxHeartbeats 4000000 in
theorem c_sFig {l : Launch} {D : va_G} {dT : Nat → ClassId} {H0 : Heap} {r : Nat → Nat} {h : j_H} {nx : Nat} (ik i kd bs fg m c d e : Nat) (hk : h ik = some (.inr (8, [.ref (r i), .int (nI c), .int (nI d)]))) (hi : h i = some (dcell kd bs fg m)) (hD : okD kd bs m) (s : Nat) (hs : s < 8 * m * m) (hd : d < bs) : MC (gG l D dT H0) yX8_strike cX8_strike 2 (some .int) 2 0 0 [.ref (r ik), .int (nI s)] r h nx (jq_i (nI (encA m (figA kd bs m d (decA m s)))) r h nx) := by
  have hm : 0 < m := by have := hD.2.1; have := hD.2.2.2.1; omega
  have hm2 : m ≤ 100 := hD.2.2.2.2
  have hs8 : s < 80000 := Nat.lt_of_lt_of_le hs (mm_le hm2)
  have hss : sS m s < m := Nat.mod_lt _ hm
  have hsh : sH m s < m := Nat.mod_lt _ hm
  have hsw : sW m s < 4 := (decA_ok hm hs).1
  refine MC.ofJ [some (.ref (r ik)), some (.int (nI s))] rfl (Nat.le_of_ble_eq_true rfl) (by decide) ?_
  refine j_aload_n dX8_strike_0 rfl ?_
  refine j_getU 0 dX8_strike_1 (by first | rfl | assumption) in_X8 rfl (by decide) q662 q663 rfl ?_
  refine j_iload_n dX8_strike_4 rfl ?_
  refine j_aload_n dX8_strike_5 rfl ?_
  refine j_get 2 dX8_strike_6 (by first | rfl | assumption) in_X8 rfl (by decide) q660 rfl ?_
  refine j_callVi (c_type i kd bs fg m hi hm hm2 hD.1 hD.2.2.1 s d hs8 (by have := hD.2.2.1; omega)) dX8_strike_9 pmX6_type q862 q863 q864 (by first | rfl | assumption) rfl rfl rfl ⟨Nat.le_of_ble_eq_true rfl, Nat.le_of_ble_eq_true rfl⟩ ⟨Nat.le_of_ble_eq_true rfl, Nat.le_of_ble_eq_true rfl⟩ rfl (Nat.le_of_ble_eq_true rfl) ?_
  refine j_iret dX8_strike_12 rfl rfl (Nat.le_refl _) (Nat.le_refl _) ?_
  exact jr_i rfl
set_option maxHeartbeats 4000000 in
theorem c_sFig2 {l : Launch} {D : va_G} {dT : Nat → ClassId} {H0 : Heap} {r : Nat → Nat} {h : j_H} {nx : Nat} (ik i kd bs fg m c d e : Nat) (hk : h ik = some (.inr (12, [.ref (r i), .int (nI c), .int (nI d), .int (nI e)]))) (hi : h i = some (dcell kd bs fg m)) (hD : okD kd bs m) (s : Nat) (hs : s < 8 * m * m) (hd : d < bs) : MC (gG l D dT H0) yX8_strike cX8_strike 2 (some .int) 2 0 0 [.ref (r ik), .int (nI s)] r h nx (jq_i (nI (encA m (figA kd bs m d (decA m s)))) r h nx) := by
  have hm : 0 < m := by have := hD.2.1; have := hD.2.2.2.1; omega
  have hm2 : m ≤ 100 := hD.2.2.2.2
  have hs8 : s < 80000 := Nat.lt_of_lt_of_le hs (mm_le hm2)
  have hss : sS m s < m := Nat.mod_lt _ hm
  have hsh : sH m s < m := Nat.mod_lt _ hm
  have hsw : sW m s < 4 := (decA_ok hm hs).1
  refine MC.ofJ [some (.ref (r ik)), some (.int (nI s))] rfl (Nat.le_of_ble_eq_true rfl) (by decide) ?_
  refine j_aload_n dX8_strike_0 rfl ?_
  refine j_getU 0 dX8_strike_1 (by first | rfl | assumption) in_X12 rfl (by decide) q662 q663 rfl ?_
  refine j_iload_n dX8_strike_4 rfl ?_
  refine j_aload_n dX8_strike_5 rfl ?_
  refine j_get 2 dX8_strike_6 (by first | rfl | assumption) in_X12 rfl (by decide) q660 rfl ?_
  refine j_callVi (c_type i kd bs fg m hi hm hm2 hD.1 hD.2.2.1 s d hs8 (by have := hD.2.2.1; omega)) dX8_strike_9 pmX6_type q862 q863 q864 (by first | rfl | assumption) rfl rfl rfl ⟨Nat.le_of_ble_eq_true rfl, Nat.le_of_ble_eq_true rfl⟩ ⟨Nat.le_of_ble_eq_true rfl, Nat.le_of_ble_eq_true rfl⟩ rfl (Nat.le_of_ble_eq_true rfl) ?_
  refine j_iret dX8_strike_12 rfl rfl (Nat.le_refl _) (Nat.le_refl _) ?_
  exact jr_i rfl
set_option maxHeartbeats 4000000 in
theorem c_sStuck {l : Launch} {D : va_G} {dT : Nat → ClassId} {H0 : Heap} {r : Nat → Nat} {h : j_H} {nx : Nat} (ik i kd bs fg m c d e : Nat) (hk : h ik = some (.inr (12, [.ref (r i), .int (nI c), .int (nI d), .int (nI e)]))) (hi : h i = some (dcell kd bs fg m)) (hD : okD kd bs m) (s : Nat) (hs : s < 8 * m * m) (hd : d < bs) (he : e < bs) : MC (gG l D dT H0) yX12_strike cX12_strike 2 (some .int) 3 0 0 [.ref (r ik), .int (nI s)] r h nx (jq_i (nI (encA m (figA kd bs m e (figA kd bs m d (decA m s))))) r h nx) := by
  have hm : 0 < m := by have := hD.2.1; have := hD.2.2.2.1; omega
  have hm2 : m ≤ 100 := hD.2.2.2.2
  have hs8 : s < 80000 := Nat.lt_of_lt_of_le hs (mm_le hm2)
  have hss : sS m s < m := Nat.mod_lt _ hm
  have hsh : sH m s < m := Nat.mod_lt _ hm
  have hsw : sW m s < 4 := (decA_ok hm hs).1
  have ha1 := figA_ok (kd := kd) (bs := bs) (d := d) hm (by have := hD.2.2.2.1; omega) (decA_ok hm hs)
  have hs1 := encA_lt ha1
  refine MC.ofJ [some (.ref (r ik)), some (.int (nI s))] rfl (Nat.le_of_ble_eq_true rfl) (by decide) ?_
  refine j_aload_n dX12_strike_0 rfl ?_
  refine j_getU 0 dX12_strike_1 (by first | rfl | assumption) in_X12 rfl (by decide) q670 q671 rfl ?_
  refine j_aload_n dX12_strike_4 rfl ?_
  refine j_iload_n dX12_strike_5 rfl ?_
  refine j_callUi (c_sFig2 ik i kd bs fg m c d e hk hi hD s hs hd) dX12_strike_6 pmX8_strike q910 q1510 q738 q860 (by decide) (by first | rfl | assumption) rfl rfl ⟨Nat.le_of_ble_eq_true rfl, Nat.le_of_ble_eq_true rfl⟩ ⟨Nat.le_of_ble_eq_true rfl, Nat.le_of_ble_eq_true rfl⟩ rfl (Nat.le_of_ble_eq_true rfl) ?_
  refine j_aload_n dX12_strike_9 rfl ?_
  refine j_get 3 dX12_strike_10 (by first | rfl | assumption) in_X12 rfl (by decide) q732 rfl ?_
  refine j_callVi (c_type i kd bs fg m hi hm hm2 hD.1 hD.2.2.1 (encA m (figA kd bs m d (decA m s))) e (Nat.lt_of_lt_of_le hs1 (mm_le hm2)) (by have := hD.2.2.1; omega)) dX12_strike_13 pmX6_type q911 q863 q864 (by first | rfl | assumption) rfl rfl rfl ⟨Nat.le_of_ble_eq_true rfl, Nat.le_of_ble_eq_true rfl⟩ ⟨Nat.le_of_ble_eq_true rfl, Nat.le_of_ble_eq_true rfl⟩ rfl (Nat.le_of_ble_eq_true rfl) ?_
  refine j_iret dX12_strike_16 rfl rfl (Nat.le_refl _) (Nat.le_refl _) ?_
  exact jr_i (by rw [decA_encA ha1])
set_option maxHeartbeats 4000000 in
theorem c_sIs {l : Launch} {D : va_G} {dT : Nat → ClassId} {H0 : Heap} {r : Nat → Nat} {h : j_H} {nx : Nat} (ik i kd bs fg m c d e : Nat) (hk : h ik = some (.inr (9, [.ref (r i), .int (nI c)]))) (hi : h i = some (dcell kd bs fg m)) (hD : okD kd bs m) (s : Nat) (hs : s < 8 * m * m) : MC (gG l D dT H0) yX9_strike cX9_strike 4 (some .int) 2 0 0 [.ref (r ik), .int (nI s)] r h nx (jq_i (nI (enc m 0 0 (if 0 < sW m s then reck kd m (sW m s) (sH m s) (sS m s) else sS m s) 0)) r h nx) := by
  have hm : 0 < m := by have := hD.2.1; have := hD.2.2.2.1; omega
  have hm2 : m ≤ 100 := hD.2.2.2.2
  have hs8 : s < 80000 := Nat.lt_of_lt_of_le hs (mm_le hm2)
  have hss : sS m s < m := Nat.mod_lt _ hm
  have hsh : sH m s < m := Nat.mod_lt _ hm
  have hsw : sW m s < 4 := (decA_ok hm hs).1
  refine MC.ofJ [some (.ref (r ik)), some (.int (nI s)), none, none] rfl (Nat.le_of_ble_eq_true rfl) (by decide) ?_
  refine j_aload_n dX9_strike_0 rfl ?_
  refine j_getU 0 dX9_strike_1 (by first | rfl | assumption) in_X9 rfl (by decide) q664 q665 rfl ?_
  refine j_iload_n dX9_strike_4 rfl ?_
  refine j_callVi (c_shown i kd bs fg m hi hm hm2 s hs8) dX9_strike_5 pmX6_shown q880 q776 q777 (by first | rfl | assumption) rfl rfl rfl ⟨Nat.le_of_ble_eq_true rfl, Nat.le_of_ble_eq_true rfl⟩ ⟨Nat.le_of_ble_eq_true rfl, Nat.le_of_ble_eq_true rfl⟩ rfl (Nat.le_of_ble_eq_true rfl) ?_
  refine j_istore_n dX9_strike_8 (by decide) rfl ?_
  refine j_join (tgt := 48) (fun v => v = nI (if 0 < sW m s then reck kd m (sW m s) (sH m s) (sS m s) else sS m s)) (fun v9 hv9 => ?_) (fun kj9 => ?_)
  · skip
    subst hv9
    refine j_istore_n dX9_strike_48 (by decide) rfl ?_
    refine j_aload_n dX9_strike_49 rfl ?_
    refine j_getU 0 dX9_strike_50 (by first | rfl | assumption) in_X9 rfl (by decide) q664 q665 rfl ?_
    refine j_iconst (v := 0) dX9_strike_53 (by decide) ?_
    refine j_iconst (v := 0) dX9_strike_54 (by decide) ?_
    refine j_iload_n dX9_strike_55 rfl ?_
    refine j_iconst (v := 0) dX9_strike_56 (by decide) ?_
    refine j_callVi (c_state i kd bs fg m hi hm hm2 0 0 _ 0 (by decide)) dX9_strike_57 pmX6_state q889 q874 q875 (by first | rfl | assumption) rfl rfl rfl ⟨Nat.le_of_ble_eq_true rfl, Nat.le_of_ble_eq_true rfl⟩ ⟨Nat.le_of_ble_eq_true rfl, Nat.le_of_ble_eq_true rfl⟩ rfl (Nat.le_of_ble_eq_true rfl) ?_
    refine j_iret dX9_strike_60 rfl rfl (Nat.le_refl _) (Nat.le_refl _) ?_
    exact jr_i rfl
  · skip
    refine j_aload_n dX9_strike_9 rfl ?_
    refine j_getU 0 dX9_strike_10 (by first | rfl | assumption) in_X9 rfl (by decide) q664 q665 rfl ?_
    refine j_iload_n dX9_strike_13 rfl ?_
    refine j_callVi (c_waits i kd bs fg m hi hm hm2 s hs8) dX9_strike_14 pmX6_waits q881 q780 q781 (by first | rfl | assumption) rfl rfl rfl ⟨Nat.le_of_ble_eq_true rfl, Nat.le_of_ble_eq_true rfl⟩ ⟨Nat.le_of_ble_eq_true rfl, Nat.le_of_ble_eq_true rfl⟩ rfl (Nat.le_of_ble_eq_true rfl) ?_
    refine j_if_le (tgt := 47) dX9_strike_17 (by decide) (fun c17 => ?_) (fun c17 => ?_)
    · skip
      have c17 : ¬ 0 < sW m s := fun q => absurd c17 (nI_nle q (by omega))
      refine j_iload_n dX9_strike_47 rfl ?_
      exact kj9 _ (by first | exact congrArg nI (if_pos c17).symm | exact congrArg nI (if_neg c17).symm)
    · skip
      have c17 : 0 < sW m s := by
        rcases Nat.eq_zero_or_pos (sW m s) with q | q
        · exact absurd (by rw [q]; exact Int32.le_refl _) c17
        · exact q
      refine j_aload_n dX9_strike_20 rfl ?_
      refine j_getU 0 dX9_strike_21 (by first | rfl | assumption) in_X9 rfl (by decide) q664 q665 rfl ?_
      refine j_aload_n dX9_strike_24 rfl ?_
      refine j_getU 0 dX9_strike_25 (by first | rfl | assumption) in_X9 rfl (by decide) q664 q665 rfl ?_
      refine j_iload_n dX9_strike_28 rfl ?_
      refine j_callVi (c_waits i kd bs fg m hi hm hm2 s hs8) dX9_strike_29 pmX6_waits q881 q780 q781 (by first | rfl | assumption) rfl rfl rfl ⟨Nat.le_of_ble_eq_true rfl, Nat.le_of_ble_eq_true rfl⟩ ⟨Nat.le_of_ble_eq_true rfl, Nat.le_of_ble_eq_true rfl⟩ rfl (Nat.le_of_ble_eq_true rfl) ?_
      refine j_aload_n dX9_strike_32 rfl ?_
      refine j_getU 0 dX9_strike_33 (by first | rfl | assumption) in_X9 rfl (by decide) q664 q665 rfl ?_
      refine j_iload_n dX9_strike_36 rfl ?_
      refine j_callVi (c_held i kd bs fg m hi hm hm2 s hs8) dX9_strike_37 pmX6_held q882 q784 q785 (by first | rfl | assumption) rfl rfl rfl ⟨Nat.le_of_ble_eq_true rfl, Nat.le_of_ble_eq_true rfl⟩ ⟨Nat.le_of_ble_eq_true rfl, Nat.le_of_ble_eq_true rfl⟩ rfl (Nat.le_of_ble_eq_true rfl) ?_
      refine j_iload_n dX9_strike_40 rfl ?_
      refine j_callVi (c_reckon i kd bs fg m hi hm hm2 hD.1 (sW m s) (sH m s) (sS m s) (by omega) hsh hss) dX9_strike_41 pmX6_reckon q883 q884 q885 (by first | rfl | assumption) rfl rfl rfl ⟨Nat.le_of_ble_eq_true rfl, Nat.le_of_ble_eq_true rfl⟩ ⟨Nat.le_of_ble_eq_true rfl, Nat.le_of_ble_eq_true rfl⟩ rfl (Nat.le_of_ble_eq_true rfl) ?_
      refine j_goto (tgt := 48) dX9_strike_44 (by decide) ?_
      exact kj9 _ (by first | exact congrArg nI (if_pos c17).symm | exact congrArg nI (if_neg c17).symm)
set_option maxHeartbeats 4000000 in
theorem c_sClear {l : Launch} {D : va_G} {dT : Nat → ClassId} {H0 : Heap} {r : Nat → Nat} {h : j_H} {nx : Nat} (ik s : Nat) : MC (gG l D dT H0) yX10_strike cX10_strike 2 (some .int) 0 0 0 [.ref (r ik), .int (nI s)] r h nx (jq_i 0 r h nx) := by
  refine MC.ofJ [some (.ref (r ik)), some (.int (nI s))] rfl (Nat.le_of_ble_eq_true rfl) (by decide) ?_
  refine j_iconst (v := 0) dX10_strike_0 (by decide) ?_
  refine j_iret dX10_strike_1 rfl rfl (Nat.le_refl _) (Nat.le_refl _) ?_
  exact jr_i rfl
set_option maxHeartbeats 4000000 in
theorem c_sNow {l : Launch} {D : va_G} {dT : Nat → ClassId} {H0 : Heap} {r : Nat → Nat} {h : j_H} {nx : Nat} (ik i kd bs fg m c d e : Nat) (hk : h ik = some (.inr (11, [.ref (r i), .int (nI c), .int (nI e), .int (nI d)]))) (hi : h i = some (dcell kd bs fg m)) (hD : okD kd bs m) (s : Nat) (hs : s < 8 * m * m) (hd : d < m) (he : e ≤ 3) : MC (gG l D dT H0) yX11_strike cX11_strike 2 (some .int) 2 0 0 [.ref (r ik), .int (nI s)] r h nx (jq_i (nI (enc m (sW m s) (sH m s) (reck kd m e (sS m s) d) 0)) r h nx) := by
  have hm : 0 < m := by have := hD.2.1; have := hD.2.2.2.1; omega
  have hm2 : m ≤ 100 := hD.2.2.2.2
  have hs8 : s < 80000 := Nat.lt_of_lt_of_le hs (mm_le hm2)
  have hss : sS m s < m := Nat.mod_lt _ hm
  have hsh : sH m s < m := Nat.mod_lt _ hm
  have hsw : sW m s < 4 := (decA_ok hm hs).1
  refine MC.ofJ [some (.ref (r ik)), some (.int (nI s))] rfl (Nat.le_of_ble_eq_true rfl) (by decide) ?_
  refine j_aload_n dX11_strike_0 rfl ?_
  refine j_getU 0 dX11_strike_1 (by first | rfl | assumption) in_X11 rfl (by decide) q666 q667 rfl ?_
  refine j_aload_n dX11_strike_4 rfl ?_
  refine j_getU 0 dX11_strike_5 (by first | rfl | assumption) in_X11 rfl (by decide) q666 q667 rfl ?_
  refine j_iload_n dX11_strike_8 rfl ?_
  refine j_callVi (c_waits i kd bs fg m hi hm hm2 s hs8) dX11_strike_9 pmX6_waits q893 q780 q781 (by first | rfl | assumption) rfl rfl rfl ⟨Nat.le_of_ble_eq_true rfl, Nat.le_of_ble_eq_true rfl⟩ ⟨Nat.le_of_ble_eq_true rfl, Nat.le_of_ble_eq_true rfl⟩ rfl (Nat.le_of_ble_eq_true rfl) ?_
  refine j_aload_n dX11_strike_12 rfl ?_
  refine j_getU 0 dX11_strike_13 (by first | rfl | assumption) in_X11 rfl (by decide) q666 q667 rfl ?_
  refine j_iload_n dX11_strike_16 rfl ?_
  refine j_callVi (c_held i kd bs fg m hi hm hm2 s hs8) dX11_strike_17 pmX6_held q894 q784 q785 (by first | rfl | assumption) rfl rfl rfl ⟨Nat.le_of_ble_eq_true rfl, Nat.le_of_ble_eq_true rfl⟩ ⟨Nat.le_of_ble_eq_true rfl, Nat.le_of_ble_eq_true rfl⟩ rfl (Nat.le_of_ble_eq_true rfl) ?_
  refine j_aload_n dX11_strike_20 rfl ?_
  refine j_getU 0 dX11_strike_21 (by first | rfl | assumption) in_X11 rfl (by decide) q666 q667 rfl ?_
  refine j_aload_n dX11_strike_24 rfl ?_
  refine j_get 2 dX11_strike_25 (by first | rfl | assumption) in_X11 rfl (by decide) q713 rfl ?_
  refine j_aload_n dX11_strike_28 rfl ?_
  refine j_getU 0 dX11_strike_29 (by first | rfl | assumption) in_X11 rfl (by decide) q666 q667 rfl ?_
  refine j_iload_n dX11_strike_32 rfl ?_
  refine j_callVi (c_shown i kd bs fg m hi hm hm2 s hs8) dX11_strike_33 pmX6_shown q895 q776 q777 (by first | rfl | assumption) rfl rfl rfl ⟨Nat.le_of_ble_eq_true rfl, Nat.le_of_ble_eq_true rfl⟩ ⟨Nat.le_of_ble_eq_true rfl, Nat.le_of_ble_eq_true rfl⟩ rfl (Nat.le_of_ble_eq_true rfl) ?_
  refine j_aload_n dX11_strike_36 rfl ?_
  refine j_get 3 dX11_strike_37 (by first | rfl | assumption) in_X11 rfl (by decide) q714 rfl ?_
  refine j_callVi (c_reckon i kd bs fg m hi hm hm2 hD.1 e (sS m s) d he hss hd) dX11_strike_40 pmX6_reckon q896 q884 q885 (by first | rfl | assumption) rfl rfl rfl ⟨Nat.le_of_ble_eq_true rfl, Nat.le_of_ble_eq_true rfl⟩ ⟨Nat.le_of_ble_eq_true rfl, Nat.le_of_ble_eq_true rfl⟩ rfl (Nat.le_of_ble_eq_true rfl) ?_
  refine j_iconst (v := 0) dX11_strike_43 (by decide) ?_
  refine j_callVi (c_state i kd bs fg m hi hm hm2 (sW m s) (sH m s) _ 0 (by decide)) dX11_strike_44 pmX6_state q897 q874 q875 (by first | rfl | assumption) rfl rfl rfl ⟨Nat.le_of_ble_eq_true rfl, Nat.le_of_ble_eq_true rfl⟩ ⟨Nat.le_of_ble_eq_true rfl, Nat.le_of_ble_eq_true rfl⟩ rfl (Nat.le_of_ble_eq_true rfl) ?_
  refine j_iret dX11_strike_47 rfl rfl (Nat.le_refl _) (Nat.le_refl _) ?_
  exact jr_i rfl
set_option maxHeartbeats 4000000 in
theorem c_sSign {l : Launch} {D : va_G} {dT : Nat → ClassId} {H0 : Heap} {r : Nat → Nat} {h : j_H} {nx : Nat} (ik i kd bs fg m c d e : Nat) (hk : h ik = some (.inr (13, [.ref (r i), .int (nI c), .int (nI d)]))) (hi : h i = some (dcell kd bs fg m)) (hD : okD kd bs m) (s : Nat) (hs : s < 8 * m * m) : MC (gG l D dT H0) yX13_strike cX13_strike 4 (some .int) 2 0 0 [.ref (r ik), .int (nI s)] r h nx (jq_i (nI (enc m d (if 0 < sW m s ∧ s % 2 = 1 then reck kd m (sW m s) (sH m s) (sS m s) else sS m s) (if 0 < sW m s ∧ s % 2 = 1 then reck kd m (sW m s) (sH m s) (sS m s) else sS m s) 0)) r h nx) := by
  have hm : 0 < m := by have := hD.2.1; have := hD.2.2.2.1; omega
  have hm2 : m ≤ 100 := hD.2.2.2.2
  have hs8 : s < 80000 := Nat.lt_of_lt_of_le hs (mm_le hm2)
  have hss : sS m s < m := Nat.mod_lt _ hm
  have hsh : sH m s < m := Nat.mod_lt _ hm
  have hsw : sW m s < 4 := (decA_ok hm hs).1
  refine MC.ofJ [some (.ref (r ik)), some (.int (nI s)), none, none] rfl (Nat.le_of_ble_eq_true rfl) (by decide) ?_
  refine j_aload_n dX13_strike_0 rfl ?_
  refine j_getU 0 dX13_strike_1 (by first | rfl | assumption) in_X13 rfl (by decide) q668 q669 rfl ?_
  refine j_iload_n dX13_strike_4 rfl ?_
  refine j_callVi (c_shown i kd bs fg m hi hm hm2 s hs8) dX13_strike_5 pmX6_shown q901 q776 q777 (by first | rfl | assumption) rfl rfl rfl ⟨Nat.le_of_ble_eq_true rfl, Nat.le_of_ble_eq_true rfl⟩ ⟨Nat.le_of_ble_eq_true rfl, Nat.le_of_ble_eq_true rfl⟩ rfl (Nat.le_of_ble_eq_true rfl) ?_
  refine j_istore_n dX13_strike_8 (by decide) rfl ?_
  refine j_join (tgt := 59) (fun v => v = nI (if 0 < sW m s ∧ s % 2 = 1 then reck kd m (sW m s) (sH m s) (sS m s) else sS m s)) (fun v9 hv9 => ?_) (fun kj9 => ?_)
  · skip
    subst hv9
    refine j_istore_n dX13_strike_59 (by decide) rfl ?_
    refine j_aload_n dX13_strike_60 rfl ?_
    refine j_getU 0 dX13_strike_61 (by first | rfl | assumption) in_X13 rfl (by decide) q668 q669 rfl ?_
    refine j_aload_n dX13_strike_64 rfl ?_
    refine j_get 2 dX13_strike_65 (by first | rfl | assumption) in_X13 rfl (by decide) q745 rfl ?_
    refine j_iload_n dX13_strike_68 rfl ?_
    refine j_iload_n dX13_strike_69 rfl ?_
    refine j_iconst (v := 0) dX13_strike_70 (by decide) ?_
    refine j_callVi (c_state i kd bs fg m hi hm hm2 d _ _ 0 (by decide)) dX13_strike_71 pmX6_state q906 q874 q875 (by first | rfl | assumption) rfl rfl rfl ⟨Nat.le_of_ble_eq_true rfl, Nat.le_of_ble_eq_true rfl⟩ ⟨Nat.le_of_ble_eq_true rfl, Nat.le_of_ble_eq_true rfl⟩ rfl (Nat.le_of_ble_eq_true rfl) ?_
    refine j_iret dX13_strike_74 rfl rfl (Nat.le_refl _) (Nat.le_refl _) ?_
    exact jr_i rfl
  · skip
    refine j_aload_n dX13_strike_9 rfl ?_
    refine j_getU 0 dX13_strike_10 (by first | rfl | assumption) in_X13 rfl (by decide) q668 q669 rfl ?_
    refine j_iload_n dX13_strike_13 rfl ?_
    refine j_callVi (c_waits i kd bs fg m hi hm hm2 s hs8) dX13_strike_14 pmX6_waits q902 q780 q781 (by first | rfl | assumption) rfl rfl rfl ⟨Nat.le_of_ble_eq_true rfl, Nat.le_of_ble_eq_true rfl⟩ ⟨Nat.le_of_ble_eq_true rfl, Nat.le_of_ble_eq_true rfl⟩ rfl (Nat.le_of_ble_eq_true rfl) ?_
    refine j_if_le (tgt := 58) dX13_strike_17 (by decide) (fun c17 => ?_) (fun c17 => ?_)
    · skip
      have c17 : ¬ 0 < sW m s := fun q => absurd c17 (nI_nle q (by omega))
      refine j_iload_n dX13_strike_58 rfl ?_
      exact kj9 _ (by first | exact congrArg nI (if_pos ⟨c17, c28⟩).symm | exact congrArg nI (if_neg (fun q => c17 q.1)).symm | exact congrArg nI (if_neg (fun q => c28 q.2)).symm)
    · skip
      have c17 : 0 < sW m s := by
        rcases Nat.eq_zero_or_pos (sW m s) with q | q
        · exact absurd (by rw [q]; exact Int32.le_refl _) c17
        · exact q
      refine j_aload_n dX13_strike_20 rfl ?_
      refine j_getU 0 dX13_strike_21 (by first | rfl | assumption) in_X13 rfl (by decide) q668 q669 rfl ?_
      refine j_iload_n dX13_strike_24 rfl ?_
      refine j_callVi (c_isTyped i s hs8) dX13_strike_25 pmX6_isTyped q903 q867 q868 (by first | rfl | assumption) rfl rfl rfl ⟨Nat.le_of_ble_eq_true rfl, Nat.le_of_ble_eq_true rfl⟩ ⟨Nat.le_of_ble_eq_true rfl, Nat.le_of_ble_eq_true rfl⟩ rfl (Nat.le_of_ble_eq_true rfl) ?_
      refine j_ifb_eq (tgt := 58) dX13_strike_28 (by decide) (fun c28 => ?_) (fun c28 => ?_)
      · skip
        refine j_iload_n dX13_strike_58 rfl ?_
        exact kj9 _ (by first | exact congrArg nI (if_pos ⟨c17, c28⟩).symm | exact congrArg nI (if_neg (fun q => c17 q.1)).symm | exact congrArg nI (if_neg (fun q => c28 q.2)).symm)
      · skip
        refine j_aload_n dX13_strike_31 rfl ?_
        refine j_getU 0 dX13_strike_32 (by first | rfl | assumption) in_X13 rfl (by decide) q668 q669 rfl ?_
        refine j_aload_n dX13_strike_35 rfl ?_
        refine j_getU 0 dX13_strike_36 (by first | rfl | assumption) in_X13 rfl (by decide) q668 q669 rfl ?_
        refine j_iload_n dX13_strike_39 rfl ?_
        refine j_callVi (c_waits i kd bs fg m hi hm hm2 s hs8) dX13_strike_40 pmX6_waits q902 q780 q781 (by first | rfl | assumption) rfl rfl rfl ⟨Nat.le_of_ble_eq_true rfl, Nat.le_of_ble_eq_true rfl⟩ ⟨Nat.le_of_ble_eq_true rfl, Nat.le_of_ble_eq_true rfl⟩ rfl (Nat.le_of_ble_eq_true rfl) ?_
        refine j_aload_n dX13_strike_43 rfl ?_
        refine j_getU 0 dX13_strike_44 (by first | rfl | assumption) in_X13 rfl (by decide) q668 q669 rfl ?_
        refine j_iload_n dX13_strike_47 rfl ?_
        refine j_callVi (c_held i kd bs fg m hi hm hm2 s hs8) dX13_strike_48 pmX6_held q904 q784 q785 (by first | rfl | assumption) rfl rfl rfl ⟨Nat.le_of_ble_eq_true rfl, Nat.le_of_ble_eq_true rfl⟩ ⟨Nat.le_of_ble_eq_true rfl, Nat.le_of_ble_eq_true rfl⟩ rfl (Nat.le_of_ble_eq_true rfl) ?_
        refine j_iload_n dX13_strike_51 rfl ?_
        refine j_callVi (c_reckon i kd bs fg m hi hm hm2 hD.1 (sW m s) (sH m s) (sS m s) (by omega) hsh hss) dX13_strike_52 pmX6_reckon q905 q884 q885 (by first | rfl | assumption) rfl rfl rfl ⟨Nat.le_of_ble_eq_true rfl, Nat.le_of_ble_eq_true rfl⟩ ⟨Nat.le_of_ble_eq_true rfl, Nat.le_of_ble_eq_true rfl⟩ rfl (Nat.le_of_ble_eq_true rfl) ?_
        refine j_goto (tgt := 59) dX13_strike_55 (by decide) ?_
        exact kj9 _ (by first | exact congrArg nI (if_pos ⟨c17, c28⟩).symm | exact congrArg nI (if_neg (fun q => c17 q.1)).symm | exact congrArg nI (if_neg (fun q => c28 q.2)).symm)
set_option maxHeartbeats 4000000 in
theorem c_kFig {l : Launch} {D : va_G} {dT : Nat → ClassId} {H0 : Heap} {r : Nat → Nat} {h : j_H} {nx : Nat} (ik : Nat) : MC (gG l D dT H0) yX8_kind cX8_kind 1 (some .int) 0 0 0 [.ref (r ik)] r h nx (jq_i 0 r h nx) := by
  refine MC.ofJ [some (.ref (r ik))] rfl (Nat.le_of_ble_eq_true rfl) (by decide) ?_
  refine j_iconst (v := 0) dX8_kind_0 (by decide) ?_
  refine j_iret dX8_kind_1 rfl rfl (Nat.le_refl _) (Nat.le_refl _) ?_
  exact jr_i rfl
set_option maxHeartbeats 4000000 in
theorem c_kIs {l : Launch} {D : va_G} {dT : Nat → ClassId} {H0 : Heap} {r : Nat → Nat} {h : j_H} {nx : Nat} (ik : Nat) : MC (gG l D dT H0) yX9_kind cX9_kind 1 (some .int) 0 0 0 [.ref (r ik)] r h nx (jq_i 4 r h nx) := by
  refine MC.ofJ [some (.ref (r ik))] rfl (Nat.le_of_ble_eq_true rfl) (by decide) ?_
  refine j_iconst (v := 4) dX9_kind_0 (by decide) ?_
  refine j_iret dX9_kind_1 rfl rfl (Nat.le_refl _) (Nat.le_refl _) ?_
  exact jr_i rfl
set_option maxHeartbeats 4000000 in
theorem c_kClear {l : Launch} {D : va_G} {dT : Nat → ClassId} {H0 : Heap} {r : Nat → Nat} {h : j_H} {nx : Nat} (ik : Nat) : MC (gG l D dT H0) yX10_kind cX10_kind 1 (some .int) 0 0 0 [.ref (r ik)] r h nx (jq_i 5 r h nx) := by
  refine MC.ofJ [some (.ref (r ik))] rfl (Nat.le_of_ble_eq_true rfl) (by decide) ?_
  refine j_iconst (v := 5) dX10_kind_0 (by decide) ?_
  refine j_iret dX10_kind_1 rfl rfl (Nat.le_refl _) (Nat.le_refl _) ?_
  exact jr_i rfl
set_option maxHeartbeats 4000000 in
theorem c_kNow {l : Launch} {D : va_G} {dT : Nat → ClassId} {H0 : Heap} {r : Nat → Nat} {h : j_H} {nx : Nat} (ik : Nat) : MC (gG l D dT H0) yX11_kind cX11_kind 1 (some .int) 0 0 0 [.ref (r ik)] r h nx (jq_i 6 r h nx) := by
  refine MC.ofJ [some (.ref (r ik))] rfl (Nat.le_of_ble_eq_true rfl) (by decide) ?_
  refine j_bipush (v := 6) dX11_kind_0 (by decide) ?_
  refine j_iret dX11_kind_2 rfl rfl (Nat.le_refl _) (Nat.le_refl _) ?_
  exact jr_i rfl
set_option maxHeartbeats 4000000 in
theorem c_kStuck {l : Launch} {D : va_G} {dT : Nat → ClassId} {H0 : Heap} {r : Nat → Nat} {h : j_H} {nx : Nat} (ik : Nat) : MC (gG l D dT H0) yX12_kind cX12_kind 1 (some .int) 0 0 0 [.ref (r ik)] r h nx (jq_i 7 r h nx) := by
  refine MC.ofJ [some (.ref (r ik))] rfl (Nat.le_of_ble_eq_true rfl) (by decide) ?_
  refine j_bipush (v := 7) dX12_kind_0 (by decide) ?_
  refine j_iret dX12_kind_2 rfl rfl (Nat.le_refl _) (Nat.le_refl _) ?_
  exact jr_i rfl
set_option maxHeartbeats 4000000 in
theorem c_kSign {l : Launch} {D : va_G} {dT : Nat → ClassId} {H0 : Heap} {r : Nat → Nat} {h : j_H} {nx : Nat} (ik a : Nat) (c x : Int32) (hk : h ik = some (.inr (13, [.ref a, .int c, .int x]))) : MC (gG l D dT H0) yX13_kind cX13_kind 1 (some .int) 0 0 0 [.ref (r ik)] r h nx (jq_i x r h nx) := by
  refine MC.ofJ [some (.ref (r ik))] rfl (Nat.le_of_ble_eq_true rfl) (by decide) ?_
  refine j_aload_n dX13_kind_0 rfl ?_
  refine j_get 2 dX13_kind_1 (by first | rfl | assumption) in_X13 rfl (by decide) q745 rfl ?_
  refine j_iret dX13_kind_4 rfl rfl (Nat.le_refl _) (Nat.le_refl _) ?_
  exact jr_i rfl
set_option maxHeartbeats 4000000 in
theorem c_n0 {l : Launch} {D : va_G} {dT : Nat → ClassId} {H0 : Heap} {r : Nat → Nat} {h : j_H} {nx : Nat} (ik : Nat) : MC (gG l D dT H0) yX7_number cX7_number 1 (some .int) 0 0 0 [.ref (r ik)] r h nx (jq_i (-1) r h nx) := by
  refine MC.ofJ [some (.ref (r ik))] rfl (Nat.le_of_ble_eq_true rfl) (by decide) ?_
  refine j_iconst (v := (-1)) dX7_number_0 (by decide) ?_
  refine j_iret dX7_number_1 rfl rfl (Nat.le_refl _) (Nat.le_refl _) ?_
  exact jr_i rfl
set_option maxHeartbeats 4000000 in
theorem c_o0 {l : Launch} {D : va_G} {dT : Nat → ClassId} {H0 : Heap} {r : Nat → Nat} {h : j_H} {nx : Nat} (ik : Nat) : MC (gG l D dT H0) yX7_other cX7_other 1 (some .int) 0 0 0 [.ref (r ik)] r h nx (jq_i (-1) r h nx) := by
  refine MC.ofJ [some (.ref (r ik))] rfl (Nat.le_of_ble_eq_true rfl) (by decide) ?_
  refine j_iconst (v := (-1)) dX7_other_0 (by decide) ?_
  refine j_iret dX7_other_1 rfl rfl (Nat.le_refl _) (Nat.le_refl _) ?_
  exact jr_i rfl
set_option maxHeartbeats 4000000 in
theorem c_nFig {l : Launch} {D : va_G} {dT : Nat → ClassId} {H0 : Heap} {r : Nat → Nat} {h : j_H} {nx : Nat} (ik a : Nat) (c x : Int32) (hk : h ik = some (.inr (8, [.ref a, .int c, .int x]))) : MC (gG l D dT H0) yX8_number cX8_number 1 (some .int) 0 0 0 [.ref (r ik)] r h nx (jq_i x r h nx) := by
  refine MC.ofJ [some (.ref (r ik))] rfl (Nat.le_of_ble_eq_true rfl) (by decide) ?_
  refine j_aload_n dX8_number_0 rfl ?_
  refine j_get 2 dX8_number_1 (by first | rfl | assumption) in_X8 rfl (by decide) q660 rfl ?_
  refine j_iret dX8_number_4 rfl rfl (Nat.le_refl _) (Nat.le_refl _) ?_
  exact jr_i rfl
set_option maxHeartbeats 4000000 in
theorem c_nFig2 {l : Launch} {D : va_G} {dT : Nat → ClassId} {H0 : Heap} {r : Nat → Nat} {h : j_H} {nx : Nat} (ik a : Nat) (c x y : Int32) (hk : h ik = some (.inr (12, [.ref a, .int c, .int x, .int y]))) : MC (gG l D dT H0) yX8_number cX8_number 1 (some .int) 0 0 0 [.ref (r ik)] r h nx (jq_i x r h nx) := by
  refine MC.ofJ [some (.ref (r ik))] rfl (Nat.le_of_ble_eq_true rfl) (by decide) ?_
  refine j_aload_n dX8_number_0 rfl ?_
  refine j_get 2 dX8_number_1 (by first | rfl | assumption) in_X12 rfl (by decide) q660 rfl ?_
  refine j_iret dX8_number_4 rfl rfl (Nat.le_refl _) (Nat.le_refl _) ?_
  exact jr_i rfl
set_option maxHeartbeats 4000000 in
theorem c_nNow {l : Launch} {D : va_G} {dT : Nat → ClassId} {H0 : Heap} {r : Nat → Nat} {h : j_H} {nx : Nat} (ik a : Nat) (c x y : Int32) (hk : h ik = some (.inr (11, [.ref a, .int c, .int y, .int x]))) : MC (gG l D dT H0) yX11_number cX11_number 1 (some .int) 0 0 0 [.ref (r ik)] r h nx (jq_i x r h nx) := by
  refine MC.ofJ [some (.ref (r ik))] rfl (Nat.le_of_ble_eq_true rfl) (by decide) ?_
  refine j_aload_n dX11_number_0 rfl ?_
  refine j_get 3 dX11_number_1 (by first | rfl | assumption) in_X11 rfl (by decide) q714 rfl ?_
  refine j_iret dX11_number_4 rfl rfl (Nat.le_refl _) (Nat.le_refl _) ?_
  exact jr_i rfl
set_option maxHeartbeats 4000000 in
theorem c_oNow {l : Launch} {D : va_G} {dT : Nat → ClassId} {H0 : Heap} {r : Nat → Nat} {h : j_H} {nx : Nat} (ik a : Nat) (c x y : Int32) (hk : h ik = some (.inr (11, [.ref a, .int c, .int y, .int x]))) : MC (gG l D dT H0) yX11_other cX11_other 1 (some .int) 0 0 0 [.ref (r ik)] r h nx (jq_i y r h nx) := by
  refine MC.ofJ [some (.ref (r ik))] rfl (Nat.le_of_ble_eq_true rfl) (by decide) ?_
  refine j_aload_n dX11_other_0 rfl ?_
  refine j_get 2 dX11_other_1 (by first | rfl | assumption) in_X11 rfl (by decide) q713 rfl ?_
  refine j_iret dX11_other_4 rfl rfl (Nat.le_refl _) (Nat.le_refl _) ?_
  exact jr_i rfl
set_option maxHeartbeats 4000000 in
theorem c_oStuck {l : Launch} {D : va_G} {dT : Nat → ClassId} {H0 : Heap} {r : Nat → Nat} {h : j_H} {nx : Nat} (ik a : Nat) (c x y : Int32) (hk : h ik = some (.inr (12, [.ref a, .int c, .int x, .int y]))) : MC (gG l D dT H0) yX12_other cX12_other 1 (some .int) 0 0 0 [.ref (r ik)] r h nx (jq_i y r h nx) := by
  refine MC.ofJ [some (.ref (r ik))] rfl (Nat.le_of_ble_eq_true rfl) (by decide) ?_
  refine j_aload_n dX12_other_0 rfl ?_
  refine j_get 3 dX12_other_1 (by first | rfl | assumption) in_X12 rfl (by decide) q732 rfl ?_
  refine j_iret dX12_other_4 rfl rfl (Nat.le_refl _) (Nat.le_refl _) ?_
  exact jr_i rfl
set_option maxHeartbeats 4000000 in
theorem j_strike {l : Launch} {D : va_G} {dT : Nat → ClassId} {H0 : Heap} {cc : ByteArray} {nL : Nat} {ret : Option FieldType} {nm : String} {R : Room} {xt : Code → Prop} {Q : j_Q} {mc ms cells slots : Nat} {r : Nat → Nat} {h : j_H} {nx pc : Nat} {L : List (Option Value)} {st : List Value} {ik i : Nat} {q : KY} (hd : decode cc pc = .ok (.invokevirtual 180, 3)) (hk : h ik = some (kcell (r i) q)) {kd bs fg m : Nat} (hi : h i = some (dcell kd bs fg m)) (hD : okD kd bs m) (hq : okK bs m q) {s : Nat} (hs : s < 8 * m * m) (hR : 4 ≤ R.frames ∧ 256 ≤ R.locals ∧ cells ≤ R.cells ∧ slots ≤ R.slots) (hcat : (st.map fun v => v.category).sum ≤ 8) (k : J (gG l D dT H0) (cc, "FewKeys", nL, ret, nm, R, xt) Q mc ms cells slots r h nx (pc + 3) L (.int (nI (strk kd bs m q s)) :: st)) : J (gG l D dT H0) (cc, "FewKeys", nL, ret, nm, R, xt) Q mc ms cells slots r h nx pc L (.int (nI s) :: .ref (r ik) :: st) := by
  unfold kcell at hk
  by_cases c0 : q.1 = 0
  · rw [if_pos c0] at hk
    refine j_callAi (owner := "FewKeys$Key") (c_sFig ik i kd bs fg m q.2.1 q.2.2.1 0 hk hi hD s hs (hq.2.2.1 c0)) hd pmX8_strike q853 q855 q860 q859 (fun _ hs => hs.1 _ qn854) (by decide +kernel) hk rfl rfl ⟨by have := hR.1; omega, by have := hR.2.1; omega⟩ ⟨hR.2.2.1, hR.2.2.2⟩ rfl hcat ?_
    have e9 := (show strk kd bs m q s = _ by unfold strk stk; rw [if_pos c0])
    rw [e9] at k
    exact k
  rw [if_neg c0] at hk
  by_cases c7 : q.1 = 7
  · rw [if_pos c7] at hk
    refine j_callAi (owner := "FewKeys$Key") (c_sStuck ik i kd bs fg m q.2.1 q.2.2.1 q.2.2.2 hk hi hD s hs (hq.2.2.2.1 c7).1 (hq.2.2.2.1 c7).2) hd pmX12_strike q853 q855 q908 q907 (fun _ hs => hs.1 _ qn854) (by decide +kernel) hk rfl rfl ⟨by have := hR.1; omega, by have := hR.2.1; omega⟩ ⟨hR.2.2.1, hR.2.2.2⟩ rfl hcat ?_
    have e9 := (show strk kd bs m q s = _ by unfold strk stk; rw [if_neg c0, if_pos c7])
    rw [e9] at k
    exact k
  rw [if_neg c7] at hk
  by_cases c4 : q.1 = 4
  · rw [if_pos c4] at hk
    refine j_callAi (owner := "FewKeys$Key") (c_sIs ik i kd bs fg m q.2.1 0 0 hk hi hD s hs) hd pmX9_strike q853 q855 q878 q877 (fun _ hs => hs.1 _ qn854) (by decide +kernel) hk rfl rfl ⟨by have := hR.1; omega, by have := hR.2.1; omega⟩ ⟨hR.2.2.1, hR.2.2.2⟩ rfl hcat ?_
    have e9 := (show strk kd bs m q s = _ by unfold strk stk; rw [if_neg c0, if_neg c7, if_pos c4])
    rw [e9] at k
    exact k
  rw [if_neg c4] at hk
  by_cases c5 : q.1 = 5
  · rw [if_pos c5] at hk
    refine j_callAi (owner := "FewKeys$Key") (c_sClear ik s) hd pmX10_strike q853 q855 q857 q856 (fun _ hs => hs.1 _ qn854) (by decide +kernel) hk rfl rfl ⟨by have := hR.1; omega, by have := hR.2.1; omega⟩ ⟨hR.2.2.1, hR.2.2.2⟩ rfl hcat ?_
    have e9 := (show strk kd bs m q s = _ by unfold strk stk; rw [if_neg c0, if_neg c7, if_neg c4, if_pos c5])
    rw [e9, show encA m (0, 0, 0, 0) = 0 by simp [encA, enc]] at k
    exact k
  rw [if_neg c5] at hk
  by_cases c6 : q.1 = 6
  · rw [if_pos c6] at hk
    refine j_callAi (owner := "FewKeys$Key") (c_sNow ik i kd bs fg m q.2.1 q.2.2.1 q.2.2.2 hk hi hD s hs (hq.2.2.2.2 c6).1 (hq.2.2.2.2 c6).2.2) hd pmX11_strike q853 q855 q891 q890 (fun _ hs => hs.1 _ qn854) (by decide +kernel) hk rfl rfl ⟨by have := hR.1; omega, by have := hR.2.1; omega⟩ ⟨hR.2.2.1, hR.2.2.2⟩ rfl hcat ?_
    have e9 := (show strk kd bs m q s = _ by unfold strk stk; rw [if_neg c0, if_neg c7, if_neg c4, if_neg c5, if_pos c6])
    rw [e9] at k
    exact k
  rw [if_neg c6] at hk
  refine j_callAi (owner := "FewKeys$Key") (c_sSign ik i kd bs fg m q.2.1 q.1 0 hk hi hD s hs) hd pmX13_strike q853 q855 q899 q898 (fun _ hs => hs.1 _ qn854) (by decide +kernel) hk rfl rfl ⟨by have := hR.1; omega, by have := hR.2.1; omega⟩ ⟨hR.2.2.1, hR.2.2.2⟩ rfl hcat ?_
  have e9 := (show strk kd bs m q s = _ by unfold strk stk; rw [if_neg c0, if_neg c7, if_neg c4, if_neg c5, if_neg c6])
  rw [e9] at k
  exact k
def kNum (q : KY) : Int32 := if q.1 = 0 ∨ q.1 = 6 ∨ q.1 = 7 then nI q.2.2.1 else -1
def kOth (q : KY) : Int32 := if q.1 = 6 ∨ q.1 = 7 then nI q.2.2.2 else -1
set_option maxHeartbeats 4000000 in
theorem j_kind {l : Launch} {D : va_G} {dT : Nat → ClassId} {H0 : Heap} {cc : ByteArray} {nL : Nat} {ret : Option FieldType} {nm : String} {R : Room} {xt : Code → Prop} {Q : j_Q} {mc ms cells slots : Nat} {r : Nat → Nat} {h : j_H} {nx pc : Nat} {L : List (Option Value)} {st : List Value} {ik i : Nat} {q : KY} (hd : decode cc pc = .ok (.invokevirtual 169, 3)) (hk : h ik = some (kcell (r i) q))  (hR : 4 ≤ R.frames ∧ 256 ≤ R.locals ∧ cells ≤ R.cells ∧ slots ≤ R.slots) (hcat : (st.map fun v => v.category).sum ≤ 8) (k : J (gG l D dT H0) (cc, "FewKeys", nL, ret, nm, R, xt) Q mc ms cells slots r h nx (pc + 3) L (.int (nI q.1) :: st)) : J (gG l D dT H0) (cc, "FewKeys", nL, ret, nm, R, xt) Q mc ms cells slots r h nx pc L (.ref (r ik) :: st) := by
  unfold kcell at hk
  by_cases c0 : q.1 = 0
  · rw [if_pos c0] at hk
    refine j_callAi (owner := "FewKeys$Key") (c_kFig ik) hd pmX8_kind q796 q798 q803 q802 (fun _ hs => hs.1 _ qn797) (by decide +kernel) hk rfl rfl ⟨by have := hR.1; omega, by have := hR.2.1; omega⟩ ⟨hR.2.2.1, hR.2.2.2⟩ rfl hcat ?_
    rw [c0] at k
    exact k
  rw [if_neg c0] at hk
  by_cases c7 : q.1 = 7
  · rw [if_pos c7] at hk
    refine j_callAi (owner := "FewKeys$Key") (c_kStuck ik) hd pmX12_kind q796 q798 q815 q814 (fun _ hs => hs.1 _ qn797) (by decide +kernel) hk rfl rfl ⟨by have := hR.1; omega, by have := hR.2.1; omega⟩ ⟨hR.2.2.1, hR.2.2.2⟩ rfl hcat ?_
    rw [c7] at k
    exact k
  rw [if_neg c7] at hk
  by_cases c4 : q.1 = 4
  · rw [if_pos c4] at hk
    refine j_callAi (owner := "FewKeys$Key") (c_kIs ik) hd pmX9_kind q796 q798 q806 q805 (fun _ hs => hs.1 _ qn797) (by decide +kernel) hk rfl rfl ⟨by have := hR.1; omega, by have := hR.2.1; omega⟩ ⟨hR.2.2.1, hR.2.2.2⟩ rfl hcat ?_
    rw [c4] at k
    exact k
  rw [if_neg c4] at hk
  by_cases c5 : q.1 = 5
  · rw [if_pos c5] at hk
    refine j_callAi (owner := "FewKeys$Key") (c_kClear ik) hd pmX10_kind q796 q798 q800 q799 (fun _ hs => hs.1 _ qn797) (by decide +kernel) hk rfl rfl ⟨by have := hR.1; omega, by have := hR.2.1; omega⟩ ⟨hR.2.2.1, hR.2.2.2⟩ rfl hcat ?_
    rw [c5] at k
    exact k
  rw [if_neg c5] at hk
  by_cases c6 : q.1 = 6
  · rw [if_pos c6] at hk
    refine j_callAi (owner := "FewKeys$Key") (c_kNow ik) hd pmX11_kind q796 q798 q809 q808 (fun _ hs => hs.1 _ qn797) (by decide +kernel) hk rfl rfl ⟨by have := hR.1; omega, by have := hR.2.1; omega⟩ ⟨hR.2.2.1, hR.2.2.2⟩ rfl hcat ?_
    rw [c6] at k
    exact k
  rw [if_neg c6] at hk
  refine j_callAi (owner := "FewKeys$Key") (c_kSign ik _ _ _ hk) hd pmX13_kind q796 q798 q812 q811 (fun _ hs => hs.1 _ qn797) (by decide +kernel) hk rfl rfl ⟨by have := hR.1; omega, by have := hR.2.1; omega⟩ ⟨hR.2.2.1, hR.2.2.2⟩ rfl hcat ?_
  exact k
set_option maxHeartbeats 4000000 in
theorem j_number {l : Launch} {D : va_G} {dT : Nat → ClassId} {H0 : Heap} {cc : ByteArray} {nL : Nat} {ret : Option FieldType} {nm : String} {R : Room} {xt : Code → Prop} {Q : j_Q} {mc ms cells slots : Nat} {r : Nat → Nat} {h : j_H} {nx pc : Nat} {L : List (Option Value)} {st : List Value} {ik i : Nat} {q : KY} (hd : decode cc pc = .ok (.invokevirtual 175, 3)) (hk : h ik = some (kcell (r i) q))  (hR : 4 ≤ R.frames ∧ 256 ≤ R.locals ∧ cells ≤ R.cells ∧ slots ≤ R.slots) (hcat : (st.map fun v => v.category).sum ≤ 8) (k : J (gG l D dT H0) (cc, "FewKeys", nL, ret, nm, R, xt) Q mc ms cells slots r h nx (pc + 3) L (.int (kNum q) :: st)) : J (gG l D dT H0) (cc, "FewKeys", nL, ret, nm, R, xt) Q mc ms cells slots r h nx pc L (.ref (r ik) :: st) := by
  unfold kcell at hk
  by_cases c0 : q.1 = 0
  · rw [if_pos c0] at hk
    refine j_callOi (owner := "FewKeys$Key") (c_nFig ik _ _ _ hk) hd pmX8_number q817 q819 q818 q830 q822 q821 (by decide +kernel) hk rfl rfl ⟨by have := hR.1; omega, by have := hR.2.1; omega⟩ ⟨hR.2.2.1, hR.2.2.2⟩ rfl hcat ?_
    have e9 : kNum q = _ := if_pos (by omega)
    rw [e9] at k
    exact k
  rw [if_neg c0] at hk
  by_cases c7 : q.1 = 7
  · rw [if_pos c7] at hk
    refine j_callOi (owner := "FewKeys$Key") (c_nFig2 ik _ _ _ _ hk) hd pmX8_number q817 q819 q818 q830 q822 q829 (by decide +kernel) hk rfl rfl ⟨by have := hR.1; omega, by have := hR.2.1; omega⟩ ⟨hR.2.2.1, hR.2.2.2⟩ rfl hcat ?_
    have e9 : kNum q = _ := if_pos (by omega)
    rw [e9] at k
    exact k
  rw [if_neg c7] at hk
  by_cases c4 : q.1 = 4
  · rw [if_pos c4] at hk
    refine j_callOi (owner := "FewKeys$Key") (c_n0 ik) hd pmX7_number q817 q819 q818 q830 q818 q824 (by decide +kernel) hk rfl rfl ⟨by have := hR.1; omega, by have := hR.2.1; omega⟩ ⟨hR.2.2.1, hR.2.2.2⟩ rfl hcat ?_
    have e9 : kNum q = _ := if_neg (by omega)
    rw [e9] at k
    exact k
  rw [if_neg c4] at hk
  by_cases c5 : q.1 = 5
  · rw [if_pos c5] at hk
    refine j_callOi (owner := "FewKeys$Key") (c_n0 ik) hd pmX7_number q817 q819 q818 q830 q818 q820 (by decide +kernel) hk rfl rfl ⟨by have := hR.1; omega, by have := hR.2.1; omega⟩ ⟨hR.2.2.1, hR.2.2.2⟩ rfl hcat ?_
    have e9 : kNum q = _ := if_neg (by omega)
    rw [e9] at k
    exact k
  rw [if_neg c5] at hk
  by_cases c6 : q.1 = 6
  · rw [if_pos c6] at hk
    refine j_callOi (owner := "FewKeys$Key") (c_nNow ik _ _ _ _ hk) hd pmX11_number q817 q819 q818 q830 q826 q825 (by decide +kernel) hk rfl rfl ⟨by have := hR.1; omega, by have := hR.2.1; omega⟩ ⟨hR.2.2.1, hR.2.2.2⟩ rfl hcat ?_
    have e9 : kNum q = _ := if_pos (by omega)
    rw [e9] at k
    exact k
  rw [if_neg c6] at hk
  refine j_callOi (owner := "FewKeys$Key") (c_n0 ik) hd pmX7_number q817 q819 q818 q830 q818 q828 (by decide +kernel) hk rfl rfl ⟨by have := hR.1; omega, by have := hR.2.1; omega⟩ ⟨hR.2.2.1, hR.2.2.2⟩ rfl hcat ?_
  have e9 : kNum q = _ := if_neg (by omega)
  rw [e9] at k
  exact k
set_option maxHeartbeats 4000000 in
theorem j_other {l : Launch} {D : va_G} {dT : Nat → ClassId} {H0 : Heap} {cc : ByteArray} {nL : Nat} {ret : Option FieldType} {nm : String} {R : Room} {xt : Code → Prop} {Q : j_Q} {mc ms cells slots : Nat} {r : Nat → Nat} {h : j_H} {nx pc : Nat} {L : List (Option Value)} {st : List Value} {ik i : Nat} {q : KY} (hd : decode cc pc = .ok (.invokevirtual 177, 3)) (hk : h ik = some (kcell (r i) q))  (hR : 4 ≤ R.frames ∧ 256 ≤ R.locals ∧ cells ≤ R.cells ∧ slots ≤ R.slots) (hcat : (st.map fun v => v.category).sum ≤ 8) (k : J (gG l D dT H0) (cc, "FewKeys", nL, ret, nm, R, xt) Q mc ms cells slots r h nx (pc + 3) L (.int (kOth q) :: st)) : J (gG l D dT H0) (cc, "FewKeys", nL, ret, nm, R, xt) Q mc ms cells slots r h nx pc L (.ref (r ik) :: st) := by
  unfold kcell at hk
  by_cases c0 : q.1 = 0
  · rw [if_pos c0] at hk
    refine j_callOi (owner := "FewKeys$Key") (c_o0 ik) hd pmX7_other q831 q833 q832 q844 q832 q835 (by decide +kernel) hk rfl rfl ⟨by have := hR.1; omega, by have := hR.2.1; omega⟩ ⟨hR.2.2.1, hR.2.2.2⟩ rfl hcat ?_
    have e9 : kOth q = _ := if_neg (by omega)
    rw [e9] at k
    exact k
  rw [if_neg c0] at hk
  by_cases c7 : q.1 = 7
  · rw [if_pos c7] at hk
    refine j_callOi (owner := "FewKeys$Key") (c_oStuck ik _ _ _ _ hk) hd pmX12_other q831 q833 q832 q844 q842 q841 (by decide +kernel) hk rfl rfl ⟨by have := hR.1; omega, by have := hR.2.1; omega⟩ ⟨hR.2.2.1, hR.2.2.2⟩ rfl hcat ?_
    have e9 : kOth q = _ := if_pos (by omega)
    rw [e9] at k
    exact k
  rw [if_neg c7] at hk
  by_cases c4 : q.1 = 4
  · rw [if_pos c4] at hk
    refine j_callOi (owner := "FewKeys$Key") (c_o0 ik) hd pmX7_other q831 q833 q832 q844 q832 q836 (by decide +kernel) hk rfl rfl ⟨by have := hR.1; omega, by have := hR.2.1; omega⟩ ⟨hR.2.2.1, hR.2.2.2⟩ rfl hcat ?_
    have e9 : kOth q = _ := if_neg (by omega)
    rw [e9] at k
    exact k
  rw [if_neg c4] at hk
  by_cases c5 : q.1 = 5
  · rw [if_pos c5] at hk
    refine j_callOi (owner := "FewKeys$Key") (c_o0 ik) hd pmX7_other q831 q833 q832 q844 q832 q834 (by decide +kernel) hk rfl rfl ⟨by have := hR.1; omega, by have := hR.2.1; omega⟩ ⟨hR.2.2.1, hR.2.2.2⟩ rfl hcat ?_
    have e9 : kOth q = _ := if_neg (by omega)
    rw [e9] at k
    exact k
  rw [if_neg c5] at hk
  by_cases c6 : q.1 = 6
  · rw [if_pos c6] at hk
    refine j_callOi (owner := "FewKeys$Key") (c_oNow ik _ _ _ _ hk) hd pmX11_other q831 q833 q832 q844 q838 q837 (by decide +kernel) hk rfl rfl ⟨by have := hR.1; omega, by have := hR.2.1; omega⟩ ⟨hR.2.2.1, hR.2.2.2⟩ rfl hcat ?_
    have e9 : kOth q = _ := if_pos (by omega)
    rw [e9] at k
    exact k
  rw [if_neg c6] at hk
  refine j_callOi (owner := "FewKeys$Key") (c_o0 ik) hd pmX7_other q831 q833 q832 q844 q832 q840 (by decide +kernel) hk rfl rfl ⟨by have := hR.1; omega, by have := hR.2.1; omega⟩ ⟨hR.2.2.1, hR.2.2.2⟩ rfl hcat ?_
  have e9 : kOth q = _ := if_neg (by omega)
  rw [e9] at k
  exact k
