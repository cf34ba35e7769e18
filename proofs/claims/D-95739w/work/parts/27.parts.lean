set_option maxRecDepth 100000
section JW
variable {G : j_G} {cc : ByteArray} {own : String} {nL : Nat} {ret : Option FieldType} {nm : String} {R : Room} {xt : Code → Prop} {Q : j_Q} {mc ms cells slots : Nat} {r : Nat → Nat} {h : j_H} {nx pc : Nat} {L : List (Option Value)} {st : List Value}
theorem j_ldcw {index : Nat} {v : Int32} (hd : decode cc pc = .ok (.ldc_w index, 3)) (hw : Cond.constant own index v ∈ lw_all) (k : J G (cc, own, nL, ret, nm, R, xt) Q mc ms cells slots r h nx (pc + 3) L (.int v :: st)) : J G (cc, own, nL, ret, nm, R, xt) Q mc ms cells slots r h nx pc L st := by
  intro p e s m args below meth c E H locs ls hH hlo hL
  obtain ⟨hx, hb, hr, hlk, hnm, hml, hown, hts, hK, hxt⟩ := id E
  exact lv_ldcw hx hb hown (hts _ hw) hd (k p e s m args below meth c E H locs ls hH hlo hL)
end JW
def ius (x y : Int32) : Int32 := (x.toUInt32 >>> (y.toUInt32 &&& Int32.toUInt32 31)).toInt32
def bc1 (x : Int32) : Int32 := x - (ius x 1 &&& 1431655765)
def bc2 (x : Int32) : Int32 := (x &&& 858993459) + (ius x 2 &&& 858993459)
def bc3 (x : Int32) : Int32 := (x + ius x 4) &&& 252645135
def bc4 (x : Int32) : Int32 := x + ius x 8
def bc5 (x : Int32) : Int32 := x + ius x 16
def pcN (x : Nat) : Nat := fb_sm (fun i => if x.testBit i = true then 1 else 0) 8
theorem bc_eq : ∀ x, x < 256 → bc5 (bc4 (bc3 (bc2 (bc1 (nI x))))) &&& 63 = nI (pcN x) := by decide +kernel
theorem has_eq : ∀ x, x < 256 → ∀ b, b < 8 → ((nI x >>> (nI b &&& 31) &&& 1 = 1) ↔ x.testBit b = true) := by decide +kernel
theorem sh_eq : ∀ b, b < 8 → (1 : Int32) <<< (nI b &&& 31) = nI (2 ^ b) := by decide +kernel
theorem or_nI (a b : Nat) : nI a ||| nI b = nI (a ||| b) := by
  apply Int32.toBitVec_inj.mp
  show BitVec.ofNat 32 a ||| BitVec.ofNat 32 b = BitVec.ofNat 32 (a ||| b)
  apply BitVec.eq_of_toNat_eq
  simp [Nat.or_mod_two_pow]

set_option maxHeartbeats 4000000 in
theorem c_bitCount {l : Launch} {D : va_G} {dT : Nat → ClassId} {H0 : Heap} {r : Nat → Nat} {h : j_H} {nx : Nat} (x : Int32) : MC (gG l D dT H0) yJ11_bitCount cJ11_bitCount 1 (some .int) 0 0 0 [.int x] r h nx (jq_i (bc5 (bc4 (bc3 (bc2 (bc1 x)))) &&& 63) r h nx) := by
  refine MC.ofJ [some (.int x)] rfl (Nat.le_of_ble_eq_true rfl) (by decide) ?_
  refine j_iload_n dJ11_bitCount_0 rfl ?_
  refine j_iload_n dJ11_bitCount_1 rfl ?_
  refine j_iconst (v := 1) dJ11_bitCount_2 (by decide) ?_
  refine j_iushr dJ11_bitCount_3 rfl ?_
  refine j_ldcw dJ11_bitCount_4 q1032 ?_
  refine j_iand dJ11_bitCount_7 ?_
  refine j_isub dJ11_bitCount_8 ?_
  refine j_eqi (show _ = bc1 x from rfl) ?_
  refine j_istore_n dJ11_bitCount_9 (by decide) rfl ?_
  refine j_iload_n dJ11_bitCount_10 rfl ?_
  refine j_ldcw dJ11_bitCount_11 q1033 ?_
  refine j_iand dJ11_bitCount_14 ?_
  refine j_iload_n dJ11_bitCount_15 rfl ?_
  refine j_iconst (v := 2) dJ11_bitCount_16 (by decide) ?_
  refine j_iushr dJ11_bitCount_17 rfl ?_
  refine j_ldcw dJ11_bitCount_18 q1033 ?_
  refine j_iand dJ11_bitCount_21 ?_
  refine j_iadd dJ11_bitCount_22 ?_
  refine j_eqi (show _ = bc2 (bc1 x) from rfl) ?_
  refine j_istore_n dJ11_bitCount_23 (by decide) rfl ?_
  refine j_iload_n dJ11_bitCount_24 rfl ?_
  refine j_iload_n dJ11_bitCount_25 rfl ?_
  refine j_iconst (v := 4) dJ11_bitCount_26 (by decide) ?_
  refine j_iushr dJ11_bitCount_27 rfl ?_
  refine j_iadd dJ11_bitCount_28 ?_
  refine j_ldcw dJ11_bitCount_29 q1034 ?_
  refine j_iand dJ11_bitCount_32 ?_
  refine j_eqi (show _ = bc3 (bc2 (bc1 x)) from rfl) ?_
  refine j_istore_n dJ11_bitCount_33 (by decide) rfl ?_
  refine j_iload_n dJ11_bitCount_34 rfl ?_
  refine j_iload_n dJ11_bitCount_35 rfl ?_
  refine j_bipush (v := 8) dJ11_bitCount_36 (by decide) ?_
  refine j_iushr dJ11_bitCount_38 rfl ?_
  refine j_iadd dJ11_bitCount_39 ?_
  refine j_eqi (show _ = bc4 (bc3 (bc2 (bc1 x))) from rfl) ?_
  refine j_istore_n dJ11_bitCount_40 (by decide) rfl ?_
  refine j_iload_n dJ11_bitCount_41 rfl ?_
  refine j_iload_n dJ11_bitCount_42 rfl ?_
  refine j_bipush (v := 16) dJ11_bitCount_43 (by decide) ?_
  refine j_iushr dJ11_bitCount_45 rfl ?_
  refine j_iadd dJ11_bitCount_46 ?_
  refine j_eqi (show _ = bc5 (bc4 (bc3 (bc2 (bc1 x)))) from rfl) ?_
  refine j_istore_n dJ11_bitCount_47 (by decide) rfl ?_
  refine j_iload_n dJ11_bitCount_48 rfl ?_
  refine j_bipush (v := 63) dJ11_bitCount_49 (by decide) ?_
  refine j_iand dJ11_bitCount_51 ?_
  refine j_iret dJ11_bitCount_52 rfl rfl (Nat.le_refl _) (Nat.le_refl _) ?_
  exact jr_i rfl
