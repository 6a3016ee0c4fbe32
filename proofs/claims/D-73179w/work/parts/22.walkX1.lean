set_option maxRecDepth 100000
def fj_min (x0 : Int32) (x1 : Int32) : Int32 :=
  (if x1 < x0 then x1 else x0)
abbrev rm_j_min : Room := { frames := 0, cells := 0, slots := 0, locals := 0 }
theorem kxj_min {p : Program} {l : Launch} {e : Env} {R : Room} {s : State} {m : MethodId} {args : Array Value} {below : List Frame} {meth : Method} {c : Code} {H : Heap} {locs : List Loc} {Z : State → Prop} {cc : ByteArray} {nL pc : Nat} {ls : Array Slot} {rest : List Value} {x0 x1 : Int32} (C : CallFix p m c cc nL s args lw_all RX0) (hsz : ls.size = nL) (hrm : (rest.map fun v => v.category).sum ≤ 8) (hR : rm_j_min.frames + 1 ≤ R.frames ∧ 8 + (2 + 11) + rm_j_min.locals ≤ R.locals) (hdg : decode cc pc = .ok (.invokestatic 6, 3)) (kk : W p l e R s m args below meth c H locs 0 0 Z (F0 m (pc + 3) ls (.int (fj_min x0 x1) :: rest))) : W p l e R s m args below meth c H locs 0 0 Z (F0 m pc ls (.int x1 :: .int x0 :: rest)) :=
  va_mmin C.1 C.2.1 (C.2.2.1.trans hsz.symm) C.2.2.2.1 (C.2.2.2.2 _ q359) (C.2.2.2.2 _ q360) (C.2.2.2.2 _ q205) (C.2.2.2.2 _ q361) (Nat.le_trans (Nat.le_add_left 1 _) hR.1) (Nat.le_trans (Nat.add_le_add_right hrm 13) hR.2) (Nat.zero_le _) (Nat.zero_le _) hdg kk
def fj_max (x0 : Int32) (x1 : Int32) : Int32 :=
  (if x0 < x1 then x1 else x0)
abbrev rm_j_max : Room := { frames := 0, cells := 0, slots := 0, locals := 0 }
theorem kxj_max {p : Program} {l : Launch} {e : Env} {R : Room} {s : State} {m : MethodId} {args : Array Value} {below : List Frame} {meth : Method} {c : Code} {H : Heap} {locs : List Loc} {Z : State → Prop} {cc : ByteArray} {nL pc : Nat} {ls : Array Slot} {rest : List Value} {x0 x1 : Int32} (C : CallFix p m c cc nL s args lw_all RX0) (hsz : ls.size = nL) (hrm : (rest.map fun v => v.category).sum ≤ 8) (hR : rm_j_max.frames + 1 ≤ R.frames ∧ 8 + (2 + 11) + rm_j_max.locals ≤ R.locals) (hdg : decode cc pc = .ok (.invokestatic 555, 3)) (kk : W p l e R s m args below meth c H locs 0 0 Z (F0 m (pc + 3) ls (.int (fj_max x0 x1) :: rest))) : W p l e R s m args below meth c H locs 0 0 Z (F0 m pc ls (.int x1 :: .int x0 :: rest)) :=
  va_mmax C.1 C.2.1 (C.2.2.1.trans hsz.symm) C.2.2.2.1 (C.2.2.2.2 _ q365) (C.2.2.2.2 _ q366) (C.2.2.2.2 _ q205) (C.2.2.2.2 _ q367) (Nat.le_trans (Nat.le_add_left 1 _) hR.1) (Nat.le_trans (Nat.add_le_add_right hrm 13) hR.2) (Nat.zero_le _) (Nat.zero_le _) hdg kk
def j_bitCount (x0 : Int32) (Q : Int32 → Prop) : Prop :=
  Q ((((((((x0 - ((UInt32.toInt32 (Int32.toUInt32 x0 >>> (Int32.toUInt32 1 &&& Int32.toUInt32 31))) &&& 1431655765)) &&& 858993459) + ((UInt32.toInt32 (Int32.toUInt32 (x0 - ((UInt32.toInt32 (Int32.toUInt32 x0 >>> (Int32.toUInt32 1 &&& Int32.toUInt32 31))) &&& 1431655765)) >>> (Int32.toUInt32 2 &&& Int32.toUInt32 31))) &&& 858993459)) + (UInt32.toInt32 (Int32.toUInt32 (((x0 - ((UInt32.toInt32 (Int32.toUInt32 x0 >>> (Int32.toUInt32 1 &&& Int32.toUInt32 31))) &&& 1431655765)) &&& 858993459) + ((UInt32.toInt32 (Int32.toUInt32 (x0 - ((UInt32.toInt32 (Int32.toUInt32 x0 >>> (Int32.toUInt32 1 &&& Int32.toUInt32 31))) &&& 1431655765)) >>> (Int32.toUInt32 2 &&& Int32.toUInt32 31))) &&& 858993459)) >>> (Int32.toUInt32 4 &&& Int32.toUInt32 31)))) &&& 252645135) + (UInt32.toInt32 (Int32.toUInt32 (((((x0 - ((UInt32.toInt32 (Int32.toUInt32 x0 >>> (Int32.toUInt32 1 &&& Int32.toUInt32 31))) &&& 1431655765)) &&& 858993459) + ((UInt32.toInt32 (Int32.toUInt32 (x0 - ((UInt32.toInt32 (Int32.toUInt32 x0 >>> (Int32.toUInt32 1 &&& Int32.toUInt32 31))) &&& 1431655765)) >>> (Int32.toUInt32 2 &&& Int32.toUInt32 31))) &&& 858993459)) + (UInt32.toInt32 (Int32.toUInt32 (((x0 - ((UInt32.toInt32 (Int32.toUInt32 x0 >>> (Int32.toUInt32 1 &&& Int32.toUInt32 31))) &&& 1431655765)) &&& 858993459) + ((UInt32.toInt32 (Int32.toUInt32 (x0 - ((UInt32.toInt32 (Int32.toUInt32 x0 >>> (Int32.toUInt32 1 &&& Int32.toUInt32 31))) &&& 1431655765)) >>> (Int32.toUInt32 2 &&& Int32.toUInt32 31))) &&& 858993459)) >>> (Int32.toUInt32 4 &&& Int32.toUInt32 31)))) &&& 252645135) >>> (Int32.toUInt32 8 &&& Int32.toUInt32 31)))) + (UInt32.toInt32 (Int32.toUInt32 ((((((x0 - ((UInt32.toInt32 (Int32.toUInt32 x0 >>> (Int32.toUInt32 1 &&& Int32.toUInt32 31))) &&& 1431655765)) &&& 858993459) + ((UInt32.toInt32 (Int32.toUInt32 (x0 - ((UInt32.toInt32 (Int32.toUInt32 x0 >>> (Int32.toUInt32 1 &&& Int32.toUInt32 31))) &&& 1431655765)) >>> (Int32.toUInt32 2 &&& Int32.toUInt32 31))) &&& 858993459)) + (UInt32.toInt32 (Int32.toUInt32 (((x0 - ((UInt32.toInt32 (Int32.toUInt32 x0 >>> (Int32.toUInt32 1 &&& Int32.toUInt32 31))) &&& 1431655765)) &&& 858993459) + ((UInt32.toInt32 (Int32.toUInt32 (x0 - ((UInt32.toInt32 (Int32.toUInt32 x0 >>> (Int32.toUInt32 1 &&& Int32.toUInt32 31))) &&& 1431655765)) >>> (Int32.toUInt32 2 &&& Int32.toUInt32 31))) &&& 858993459)) >>> (Int32.toUInt32 4 &&& Int32.toUInt32 31)))) &&& 252645135) + (UInt32.toInt32 (Int32.toUInt32 (((((x0 - ((UInt32.toInt32 (Int32.toUInt32 x0 >>> (Int32.toUInt32 1 &&& Int32.toUInt32 31))) &&& 1431655765)) &&& 858993459) + ((UInt32.toInt32 (Int32.toUInt32 (x0 - ((UInt32.toInt32 (Int32.toUInt32 x0 >>> (Int32.toUInt32 1 &&& Int32.toUInt32 31))) &&& 1431655765)) >>> (Int32.toUInt32 2 &&& Int32.toUInt32 31))) &&& 858993459)) + (UInt32.toInt32 (Int32.toUInt32 (((x0 - ((UInt32.toInt32 (Int32.toUInt32 x0 >>> (Int32.toUInt32 1 &&& Int32.toUInt32 31))) &&& 1431655765)) &&& 858993459) + ((UInt32.toInt32 (Int32.toUInt32 (x0 - ((UInt32.toInt32 (Int32.toUInt32 x0 >>> (Int32.toUInt32 1 &&& Int32.toUInt32 31))) &&& 1431655765)) >>> (Int32.toUInt32 2 &&& Int32.toUInt32 31))) &&& 858993459)) >>> (Int32.toUInt32 4 &&& Int32.toUInt32 31)))) &&& 252645135) >>> (Int32.toUInt32 8 &&& Int32.toUInt32 31)))) >>> (Int32.toUInt32 16 &&& Int32.toUInt32 31)))) &&& 63)
abbrev rm_j_bitCount : Room := { frames := 0, cells := 0, slots := 0, locals := 0 }
set_option maxHeartbeats 4000000 in
theorem met_j_bitCount (l : Launch) (x0 : Int32) (Q : Int32 → Prop) (hf : j_bitCount x0 Q) : Met l yJ4_bitCount (ws_ yJ4_bitCount cJ4_bitCount 1 (some .int)) rm_j_bitCount (va_Pc [.int x0] (fun _ => True)) (gR rvI Q) 0 0 (fun _ => False) := by
  refine g_metSI (by decide) (Nat.le_of_ble_eq_true rfl) ?_
  intro p e s m args below meth c QQ ls H C hl hret
  replace hl : lv_has ls 1 [(0, .int x0)] := hl
  unfold j_bitCount at hf
  refine lv_iload_n C.1 C.2.1 dJ4_bitCount_0 rfl (lv_at hl 0 rfl) ?_
  refine lv_iload_n C.1 C.2.1 dJ4_bitCount_1 rfl (lv_at hl 0 rfl) ?_
  refine lv_iconst (v := 1) C.1 C.2.1 dJ4_bitCount_2 rfl ?_
  refine lv_iushr C.1 C.2.1 dJ4_bitCount_3 rfl ?_
  refine lv_ldcw C.1 C.2.1 C.2.2.2.1 (C.2.2.2.2 _ q731) dJ4_bitCount_4 ?_
  refine lv_iand C.1 C.2.1 dJ4_bitCount_7 ?_
  refine lv_isub C.1 C.2.1 dJ4_bitCount_8 ?_
  refine lv_istore_n (lv' := [(0, .int (x0 - ((UInt32.toInt32 (Int32.toUInt32 x0 >>> (Int32.toUInt32 1 &&& Int32.toUInt32 31))) &&& 1431655765)))]) C.1 C.2.1 dJ4_bitCount_9 rfl hl (Nat.le_of_ble_eq_true rfl) rfl (fun ls hl => ?_)
  refine lv_iload_n C.1 C.2.1 dJ4_bitCount_10 rfl (lv_at hl 0 rfl) ?_
  refine lv_ldcw C.1 C.2.1 C.2.2.2.1 (C.2.2.2.2 _ q732) dJ4_bitCount_11 ?_
  refine lv_iand C.1 C.2.1 dJ4_bitCount_14 ?_
  refine lv_iload_n C.1 C.2.1 dJ4_bitCount_15 rfl (lv_at hl 0 rfl) ?_
  refine lv_iconst (v := 2) C.1 C.2.1 dJ4_bitCount_16 rfl ?_
  refine lv_iushr C.1 C.2.1 dJ4_bitCount_17 rfl ?_
  refine lv_ldcw C.1 C.2.1 C.2.2.2.1 (C.2.2.2.2 _ q732) dJ4_bitCount_18 ?_
  refine lv_iand C.1 C.2.1 dJ4_bitCount_21 ?_
  refine lv_iadd C.1 C.2.1 dJ4_bitCount_22 ?_
  refine lv_istore_n (lv' := [(0, .int (((x0 - ((UInt32.toInt32 (Int32.toUInt32 x0 >>> (Int32.toUInt32 1 &&& Int32.toUInt32 31))) &&& 1431655765)) &&& 858993459) + ((UInt32.toInt32 (Int32.toUInt32 (x0 - ((UInt32.toInt32 (Int32.toUInt32 x0 >>> (Int32.toUInt32 1 &&& Int32.toUInt32 31))) &&& 1431655765)) >>> (Int32.toUInt32 2 &&& Int32.toUInt32 31))) &&& 858993459)))]) C.1 C.2.1 dJ4_bitCount_23 rfl hl (Nat.le_of_ble_eq_true rfl) rfl (fun ls hl => ?_)
  refine lv_iload_n C.1 C.2.1 dJ4_bitCount_24 rfl (lv_at hl 0 rfl) ?_
  refine lv_iload_n C.1 C.2.1 dJ4_bitCount_25 rfl (lv_at hl 0 rfl) ?_
  refine lv_iconst (v := 4) C.1 C.2.1 dJ4_bitCount_26 rfl ?_
  refine lv_iushr C.1 C.2.1 dJ4_bitCount_27 rfl ?_
  refine lv_iadd C.1 C.2.1 dJ4_bitCount_28 ?_
  refine lv_ldcw C.1 C.2.1 C.2.2.2.1 (C.2.2.2.2 _ q733) dJ4_bitCount_29 ?_
  refine lv_iand C.1 C.2.1 dJ4_bitCount_32 ?_
  refine lv_istore_n (lv' := [(0, .int (((((x0 - ((UInt32.toInt32 (Int32.toUInt32 x0 >>> (Int32.toUInt32 1 &&& Int32.toUInt32 31))) &&& 1431655765)) &&& 858993459) + ((UInt32.toInt32 (Int32.toUInt32 (x0 - ((UInt32.toInt32 (Int32.toUInt32 x0 >>> (Int32.toUInt32 1 &&& Int32.toUInt32 31))) &&& 1431655765)) >>> (Int32.toUInt32 2 &&& Int32.toUInt32 31))) &&& 858993459)) + (UInt32.toInt32 (Int32.toUInt32 (((x0 - ((UInt32.toInt32 (Int32.toUInt32 x0 >>> (Int32.toUInt32 1 &&& Int32.toUInt32 31))) &&& 1431655765)) &&& 858993459) + ((UInt32.toInt32 (Int32.toUInt32 (x0 - ((UInt32.toInt32 (Int32.toUInt32 x0 >>> (Int32.toUInt32 1 &&& Int32.toUInt32 31))) &&& 1431655765)) >>> (Int32.toUInt32 2 &&& Int32.toUInt32 31))) &&& 858993459)) >>> (Int32.toUInt32 4 &&& Int32.toUInt32 31)))) &&& 252645135))]) C.1 C.2.1 dJ4_bitCount_33 rfl hl (Nat.le_of_ble_eq_true rfl) rfl (fun ls hl => ?_)
  refine lv_iload_n C.1 C.2.1 dJ4_bitCount_34 rfl (lv_at hl 0 rfl) ?_
  refine lv_iload_n C.1 C.2.1 dJ4_bitCount_35 rfl (lv_at hl 0 rfl) ?_
  refine lv_bipush (v := 8) C.1 C.2.1 dJ4_bitCount_36 rfl ?_
  refine lv_iushr C.1 C.2.1 dJ4_bitCount_38 rfl ?_
  refine lv_iadd C.1 C.2.1 dJ4_bitCount_39 ?_
  refine lv_istore_n (lv' := [(0, .int ((((((x0 - ((UInt32.toInt32 (Int32.toUInt32 x0 >>> (Int32.toUInt32 1 &&& Int32.toUInt32 31))) &&& 1431655765)) &&& 858993459) + ((UInt32.toInt32 (Int32.toUInt32 (x0 - ((UInt32.toInt32 (Int32.toUInt32 x0 >>> (Int32.toUInt32 1 &&& Int32.toUInt32 31))) &&& 1431655765)) >>> (Int32.toUInt32 2 &&& Int32.toUInt32 31))) &&& 858993459)) + (UInt32.toInt32 (Int32.toUInt32 (((x0 - ((UInt32.toInt32 (Int32.toUInt32 x0 >>> (Int32.toUInt32 1 &&& Int32.toUInt32 31))) &&& 1431655765)) &&& 858993459) + ((UInt32.toInt32 (Int32.toUInt32 (x0 - ((UInt32.toInt32 (Int32.toUInt32 x0 >>> (Int32.toUInt32 1 &&& Int32.toUInt32 31))) &&& 1431655765)) >>> (Int32.toUInt32 2 &&& Int32.toUInt32 31))) &&& 858993459)) >>> (Int32.toUInt32 4 &&& Int32.toUInt32 31)))) &&& 252645135) + (UInt32.toInt32 (Int32.toUInt32 (((((x0 - ((UInt32.toInt32 (Int32.toUInt32 x0 >>> (Int32.toUInt32 1 &&& Int32.toUInt32 31))) &&& 1431655765)) &&& 858993459) + ((UInt32.toInt32 (Int32.toUInt32 (x0 - ((UInt32.toInt32 (Int32.toUInt32 x0 >>> (Int32.toUInt32 1 &&& Int32.toUInt32 31))) &&& 1431655765)) >>> (Int32.toUInt32 2 &&& Int32.toUInt32 31))) &&& 858993459)) + (UInt32.toInt32 (Int32.toUInt32 (((x0 - ((UInt32.toInt32 (Int32.toUInt32 x0 >>> (Int32.toUInt32 1 &&& Int32.toUInt32 31))) &&& 1431655765)) &&& 858993459) + ((UInt32.toInt32 (Int32.toUInt32 (x0 - ((UInt32.toInt32 (Int32.toUInt32 x0 >>> (Int32.toUInt32 1 &&& Int32.toUInt32 31))) &&& 1431655765)) >>> (Int32.toUInt32 2 &&& Int32.toUInt32 31))) &&& 858993459)) >>> (Int32.toUInt32 4 &&& Int32.toUInt32 31)))) &&& 252645135) >>> (Int32.toUInt32 8 &&& Int32.toUInt32 31)))))]) C.1 C.2.1 dJ4_bitCount_40 rfl hl (Nat.le_of_ble_eq_true rfl) rfl (fun ls hl => ?_)
  refine lv_iload_n C.1 C.2.1 dJ4_bitCount_41 rfl (lv_at hl 0 rfl) ?_
  refine lv_iload_n C.1 C.2.1 dJ4_bitCount_42 rfl (lv_at hl 0 rfl) ?_
  refine lv_bipush (v := 16) C.1 C.2.1 dJ4_bitCount_43 rfl ?_
  refine lv_iushr C.1 C.2.1 dJ4_bitCount_45 rfl ?_
  refine lv_iadd C.1 C.2.1 dJ4_bitCount_46 ?_
  refine lv_istore_n (lv' := [(0, .int (((((((x0 - ((UInt32.toInt32 (Int32.toUInt32 x0 >>> (Int32.toUInt32 1 &&& Int32.toUInt32 31))) &&& 1431655765)) &&& 858993459) + ((UInt32.toInt32 (Int32.toUInt32 (x0 - ((UInt32.toInt32 (Int32.toUInt32 x0 >>> (Int32.toUInt32 1 &&& Int32.toUInt32 31))) &&& 1431655765)) >>> (Int32.toUInt32 2 &&& Int32.toUInt32 31))) &&& 858993459)) + (UInt32.toInt32 (Int32.toUInt32 (((x0 - ((UInt32.toInt32 (Int32.toUInt32 x0 >>> (Int32.toUInt32 1 &&& Int32.toUInt32 31))) &&& 1431655765)) &&& 858993459) + ((UInt32.toInt32 (Int32.toUInt32 (x0 - ((UInt32.toInt32 (Int32.toUInt32 x0 >>> (Int32.toUInt32 1 &&& Int32.toUInt32 31))) &&& 1431655765)) >>> (Int32.toUInt32 2 &&& Int32.toUInt32 31))) &&& 858993459)) >>> (Int32.toUInt32 4 &&& Int32.toUInt32 31)))) &&& 252645135) + (UInt32.toInt32 (Int32.toUInt32 (((((x0 - ((UInt32.toInt32 (Int32.toUInt32 x0 >>> (Int32.toUInt32 1 &&& Int32.toUInt32 31))) &&& 1431655765)) &&& 858993459) + ((UInt32.toInt32 (Int32.toUInt32 (x0 - ((UInt32.toInt32 (Int32.toUInt32 x0 >>> (Int32.toUInt32 1 &&& Int32.toUInt32 31))) &&& 1431655765)) >>> (Int32.toUInt32 2 &&& Int32.toUInt32 31))) &&& 858993459)) + (UInt32.toInt32 (Int32.toUInt32 (((x0 - ((UInt32.toInt32 (Int32.toUInt32 x0 >>> (Int32.toUInt32 1 &&& Int32.toUInt32 31))) &&& 1431655765)) &&& 858993459) + ((UInt32.toInt32 (Int32.toUInt32 (x0 - ((UInt32.toInt32 (Int32.toUInt32 x0 >>> (Int32.toUInt32 1 &&& Int32.toUInt32 31))) &&& 1431655765)) >>> (Int32.toUInt32 2 &&& Int32.toUInt32 31))) &&& 858993459)) >>> (Int32.toUInt32 4 &&& Int32.toUInt32 31)))) &&& 252645135) >>> (Int32.toUInt32 8 &&& Int32.toUInt32 31)))) + (UInt32.toInt32 (Int32.toUInt32 ((((((x0 - ((UInt32.toInt32 (Int32.toUInt32 x0 >>> (Int32.toUInt32 1 &&& Int32.toUInt32 31))) &&& 1431655765)) &&& 858993459) + ((UInt32.toInt32 (Int32.toUInt32 (x0 - ((UInt32.toInt32 (Int32.toUInt32 x0 >>> (Int32.toUInt32 1 &&& Int32.toUInt32 31))) &&& 1431655765)) >>> (Int32.toUInt32 2 &&& Int32.toUInt32 31))) &&& 858993459)) + (UInt32.toInt32 (Int32.toUInt32 (((x0 - ((UInt32.toInt32 (Int32.toUInt32 x0 >>> (Int32.toUInt32 1 &&& Int32.toUInt32 31))) &&& 1431655765)) &&& 858993459) + ((UInt32.toInt32 (Int32.toUInt32 (x0 - ((UInt32.toInt32 (Int32.toUInt32 x0 >>> (Int32.toUInt32 1 &&& Int32.toUInt32 31))) &&& 1431655765)) >>> (Int32.toUInt32 2 &&& Int32.toUInt32 31))) &&& 858993459)) >>> (Int32.toUInt32 4 &&& Int32.toUInt32 31)))) &&& 252645135) + (UInt32.toInt32 (Int32.toUInt32 (((((x0 - ((UInt32.toInt32 (Int32.toUInt32 x0 >>> (Int32.toUInt32 1 &&& Int32.toUInt32 31))) &&& 1431655765)) &&& 858993459) + ((UInt32.toInt32 (Int32.toUInt32 (x0 - ((UInt32.toInt32 (Int32.toUInt32 x0 >>> (Int32.toUInt32 1 &&& Int32.toUInt32 31))) &&& 1431655765)) >>> (Int32.toUInt32 2 &&& Int32.toUInt32 31))) &&& 858993459)) + (UInt32.toInt32 (Int32.toUInt32 (((x0 - ((UInt32.toInt32 (Int32.toUInt32 x0 >>> (Int32.toUInt32 1 &&& Int32.toUInt32 31))) &&& 1431655765)) &&& 858993459) + ((UInt32.toInt32 (Int32.toUInt32 (x0 - ((UInt32.toInt32 (Int32.toUInt32 x0 >>> (Int32.toUInt32 1 &&& Int32.toUInt32 31))) &&& 1431655765)) >>> (Int32.toUInt32 2 &&& Int32.toUInt32 31))) &&& 858993459)) >>> (Int32.toUInt32 4 &&& Int32.toUInt32 31)))) &&& 252645135) >>> (Int32.toUInt32 8 &&& Int32.toUInt32 31)))) >>> (Int32.toUInt32 16 &&& Int32.toUInt32 31)))))]) C.1 C.2.1 dJ4_bitCount_47 rfl hl (Nat.le_of_ble_eq_true rfl) rfl (fun ls hl => ?_)
  refine lv_iload_n C.1 C.2.1 dJ4_bitCount_48 rfl (lv_at hl 0 rfl) ?_
  refine lv_bipush (v := 63) C.1 C.2.1 dJ4_bitCount_49 rfl ?_
  refine lv_iand C.1 C.2.1 dJ4_bitCount_51 ?_
  exact hret _ _ _ hf dJ4_bitCount_52
def fj_bitCount (x0 : Int32) : Int32 :=
  ((((((((x0 - ((UInt32.toInt32 (Int32.toUInt32 x0 >>> (Int32.toUInt32 1 &&& Int32.toUInt32 31))) &&& 1431655765)) &&& 858993459) + ((UInt32.toInt32 (Int32.toUInt32 (x0 - ((UInt32.toInt32 (Int32.toUInt32 x0 >>> (Int32.toUInt32 1 &&& Int32.toUInt32 31))) &&& 1431655765)) >>> (Int32.toUInt32 2 &&& Int32.toUInt32 31))) &&& 858993459)) + (UInt32.toInt32 (Int32.toUInt32 (((x0 - ((UInt32.toInt32 (Int32.toUInt32 x0 >>> (Int32.toUInt32 1 &&& Int32.toUInt32 31))) &&& 1431655765)) &&& 858993459) + ((UInt32.toInt32 (Int32.toUInt32 (x0 - ((UInt32.toInt32 (Int32.toUInt32 x0 >>> (Int32.toUInt32 1 &&& Int32.toUInt32 31))) &&& 1431655765)) >>> (Int32.toUInt32 2 &&& Int32.toUInt32 31))) &&& 858993459)) >>> (Int32.toUInt32 4 &&& Int32.toUInt32 31)))) &&& 252645135) + (UInt32.toInt32 (Int32.toUInt32 (((((x0 - ((UInt32.toInt32 (Int32.toUInt32 x0 >>> (Int32.toUInt32 1 &&& Int32.toUInt32 31))) &&& 1431655765)) &&& 858993459) + ((UInt32.toInt32 (Int32.toUInt32 (x0 - ((UInt32.toInt32 (Int32.toUInt32 x0 >>> (Int32.toUInt32 1 &&& Int32.toUInt32 31))) &&& 1431655765)) >>> (Int32.toUInt32 2 &&& Int32.toUInt32 31))) &&& 858993459)) + (UInt32.toInt32 (Int32.toUInt32 (((x0 - ((UInt32.toInt32 (Int32.toUInt32 x0 >>> (Int32.toUInt32 1 &&& Int32.toUInt32 31))) &&& 1431655765)) &&& 858993459) + ((UInt32.toInt32 (Int32.toUInt32 (x0 - ((UInt32.toInt32 (Int32.toUInt32 x0 >>> (Int32.toUInt32 1 &&& Int32.toUInt32 31))) &&& 1431655765)) >>> (Int32.toUInt32 2 &&& Int32.toUInt32 31))) &&& 858993459)) >>> (Int32.toUInt32 4 &&& Int32.toUInt32 31)))) &&& 252645135) >>> (Int32.toUInt32 8 &&& Int32.toUInt32 31)))) + (UInt32.toInt32 (Int32.toUInt32 ((((((x0 - ((UInt32.toInt32 (Int32.toUInt32 x0 >>> (Int32.toUInt32 1 &&& Int32.toUInt32 31))) &&& 1431655765)) &&& 858993459) + ((UInt32.toInt32 (Int32.toUInt32 (x0 - ((UInt32.toInt32 (Int32.toUInt32 x0 >>> (Int32.toUInt32 1 &&& Int32.toUInt32 31))) &&& 1431655765)) >>> (Int32.toUInt32 2 &&& Int32.toUInt32 31))) &&& 858993459)) + (UInt32.toInt32 (Int32.toUInt32 (((x0 - ((UInt32.toInt32 (Int32.toUInt32 x0 >>> (Int32.toUInt32 1 &&& Int32.toUInt32 31))) &&& 1431655765)) &&& 858993459) + ((UInt32.toInt32 (Int32.toUInt32 (x0 - ((UInt32.toInt32 (Int32.toUInt32 x0 >>> (Int32.toUInt32 1 &&& Int32.toUInt32 31))) &&& 1431655765)) >>> (Int32.toUInt32 2 &&& Int32.toUInt32 31))) &&& 858993459)) >>> (Int32.toUInt32 4 &&& Int32.toUInt32 31)))) &&& 252645135) + (UInt32.toInt32 (Int32.toUInt32 (((((x0 - ((UInt32.toInt32 (Int32.toUInt32 x0 >>> (Int32.toUInt32 1 &&& Int32.toUInt32 31))) &&& 1431655765)) &&& 858993459) + ((UInt32.toInt32 (Int32.toUInt32 (x0 - ((UInt32.toInt32 (Int32.toUInt32 x0 >>> (Int32.toUInt32 1 &&& Int32.toUInt32 31))) &&& 1431655765)) >>> (Int32.toUInt32 2 &&& Int32.toUInt32 31))) &&& 858993459)) + (UInt32.toInt32 (Int32.toUInt32 (((x0 - ((UInt32.toInt32 (Int32.toUInt32 x0 >>> (Int32.toUInt32 1 &&& Int32.toUInt32 31))) &&& 1431655765)) &&& 858993459) + ((UInt32.toInt32 (Int32.toUInt32 (x0 - ((UInt32.toInt32 (Int32.toUInt32 x0 >>> (Int32.toUInt32 1 &&& Int32.toUInt32 31))) &&& 1431655765)) >>> (Int32.toUInt32 2 &&& Int32.toUInt32 31))) &&& 858993459)) >>> (Int32.toUInt32 4 &&& Int32.toUInt32 31)))) &&& 252645135) >>> (Int32.toUInt32 8 &&& Int32.toUInt32 31)))) >>> (Int32.toUInt32 16 &&& Int32.toUInt32 31)))) &&& 63)
theorem j_bitCount_f {Q : Int32 → Prop} {x0 : Int32} (h : Q (fj_bitCount x0)) : j_bitCount x0 Q := by
  unfold fj_bitCount at h
  unfold j_bitCount
  exact h
theorem kxj_bitCount {p : Program} {l : Launch} {e : Env} {R : Room} {s : State} {m : MethodId} {args : Array Value} {below : List Frame} {meth : Method} {c : Code} {H : Heap} {locs : List Loc} {Z : State → Prop} {cc : ByteArray} {nL pc : Nat} {ls : Array Slot} {rest : List Value} {x0 : Int32} (C : CallFix p m c cc nL s args lw_all RX0) (hsz : ls.size = nL) (hrm : (rest.map fun v => v.category).sum ≤ 8) (hR : rm_j_bitCount.frames + 1 ≤ R.frames ∧ 8 + (1 + 11) + rm_j_bitCount.locals ≤ R.locals) (hdg : decode cc pc = .ok (.invokestatic 326, 3)) (kk : W p l e R s m args below meth c H locs 0 0 Z (F0 m (pc + 3) ls (.int (fj_bitCount x0) :: rest))) : W p l e R s m args below meth c H locs 0 0 Z (F0 m pc ls (.int x0 :: rest)) :=
  g_callSRf (As := [.int x0]) (rest := rest) C (met_j_bitCount l x0 (fun r => r = fj_bitCount x0) (j_bitCount_f rfl)) (va_cwS 1 C.2.2.2.2 (lw_S q767 q729 q210 q730) rfl rfl rfl (by decide +kernel) hR) rfl hsz rfl hrm ⟨Nat.zero_le _, Nat.zero_le _⟩ hdg kk
def x_at (σ : St) (x1 : Int32) (x2 : Int32) (Q : Int32 → Prop) : Prop :=
  (vp_in ((4 * x1) + x2) 48 ∧ Q (gI σ 87 ((4 * x1) + x2)))
abbrev rm_x_at : Room := { frames := 0, cells := 0, slots := 0, locals := 0 }
set_option maxHeartbeats 4000000 in
theorem met_x_at (l : Launch) (D : va_G) (ct : Ct) (ad : Nat → Nat) (hJ : gJ shX ad ct) (σ : St) (x1 : Int32) (x2 : Int32) (Q : Int32 → Prop) (hf : x_at σ x1 x2 Q) : Met l yX5_at (ws_ yX5_at cX5_at 3 (some .int)) rm_x_at (va_Pc [.ref (ad 1), .int x1, .int x2] (gP D ct shX ad σ)) (gR rvI Q) 0 0 (fun _ => False) := by
  refine g_metRI hJ (by decide) (Nat.le_of_ble_eq_true rfl) ?_
  intro p e s m args below meth c QQ ls H C hw hl hret
  replace hl : lv_has ls 3 [(0, .ref (ad 1)), (1, .int x1), (2, .int x2)] := hl
  unfold x_at at hf
  refine lv_aload_n C.1 C.2.1 dX5_at_0 rfl (lv_at hl 0 rfl) ?_
  refine xo_symbols C hw dX5_at_1 ?_
  refine lv_iconst (v := 4) C.1 C.2.1 dX5_at_4 rfl ?_
  refine lv_iload_n C.1 C.2.1 dX5_at_5 rfl (lv_at hl 1 rfl) ?_
  refine lv_imul C.1 C.2.1 dX5_at_6 ?_
  refine lv_iload_n C.1 C.2.1 dX5_at_7 rfl (lv_at hl 2 rfl) ?_
  refine lv_iadd C.1 C.2.1 dX5_at_8 ?_
  obtain ⟨b9, hf⟩ := hf
  refine g_iald C hw 87 rfl b9 dX5_at_9 ?_
  exact hret _ _ _ hf dX5_at_10
theorem kx_at {p : Program} {l : Launch} {e : Env} {R : Room} {s : State} {m : MethodId} {args : Array Value} {below : List Frame} {meth : Method} {c : Code} {H : Heap} {locs : List Loc} {Z : State → Prop} {cc : ByteArray} {nL pc : Nat} {ls : Array Slot} {rest : List Value} {D : va_G} {ct : Ct} {ad : Nat → Nat} {σ : St} {x1 : Int32} {x2 : Int32} {Qp : Int32 → Prop} (C : CallFix p m c cc nL s args lw_all RX0) (hw : gH D ct shX ad s σ H locs) (hsz : ls.size = nL) (hrm : (rest.map fun v => v.category).sum ≤ 8) (hR : rm_x_at.frames + 1 ≤ R.frames ∧ 8 + (3 + 11) + rm_x_at.locals ≤ R.locals) (hdg : decode cc pc = .ok (.invokevirtual 308, 3)) (hf : x_at σ x1 x2 Qp) (kk : ∀ (r : Int32), Qp r → W p l e R s m args below meth c H locs 0 0 Z (F0 m (pc + 3) ls (.int r :: rest))) : W p l e R s m args below meth c H locs 0 0 Z (F0 m pc ls (.int x2 :: .int x1 :: .ref (ad 1) :: rest)) :=
  g_callVR (As := [.int x1, .int x2]) (rest := rest) C hw rfl rfl (met_x_at l D ct ad hw.2.1 σ x1 x2 Qp hf) (cwV 2 C.2.2.2.2 (lw_V q306 q307 q308 q209 q309) rfl rfl rfl (by decide +kernel) hR) rfl hsz rfl hrm ⟨Nat.zero_le _, Nat.zero_le _⟩ hdg kk
def x_in (x0 : Int64) (x2 : Int64) (x4 : Int64) (Q : Int32 → Prop) : Prop :=
  ((x0 < x2 → Q 0) ∧ (¬ x0 < x2 → ((x4 < x0 → Q 0) ∧ (¬ x4 < x0 → Q 1))))
abbrev rm_x_in : Room := { frames := 0, cells := 0, slots := 0, locals := 0 }
set_option maxHeartbeats 4000000 in
theorem met_x_in (l : Launch) (x0 : Int64) (x2 : Int64) (x4 : Int64) (Q : Int32 → Prop) (hf : x_in x0 x2 x4 Q) : Met l yX0_in (ws_ yX0_in cX0_in 6 (some .boolean)) rm_x_in (va_Pc [.long x0, .long x2, .long x4] (fun _ => True)) (gR rvI Q) 0 0 (fun _ => False) := by
  refine g_metSZ (by decide) (Nat.le_of_ble_eq_true rfl) ?_
  intro p e s m args below meth c QQ ls H C hl hret
  replace hl : lv_has ls 6 [(0, .long x0), (2, .long x2), (4, .long x4)] := hl
  unfold x_in at hf
  refine lv_lload_n C.1 C.2.1 dX0_in_0 rfl (lv_at hl 0 rfl) ?_
  refine lv_lload_n C.1 C.2.1 dX0_in_1 rfl (lv_at hl 1 rfl) ?_
  refine W.lcmp C.1 C.2.1 dX0_in_2 ?_
  refine lv_if_lt (tgt := 17) C.1 C.2.1 dX0_in_3 (by decide) (fun h3 => ?_) (fun h3 => ?_)
  · replace hf := hf.1 ((lg_cmp_lt _ _).mp h3)
    refine lv_iconst (v := 0) C.1 C.2.1 dX0_in_17 rfl ?_
    exact hret _ _ _ hf (Or.inl rfl) dX0_in_18
  · replace hf := hf.2 (fun q => h3 ((lg_cmp_lt _ _).mpr q))
    refine lv_lload_n C.1 C.2.1 dX0_in_6 rfl (lv_at hl 0 rfl) ?_
    refine lv_lload C.1 C.2.1 dX0_in_7 (lv_at hl 2 rfl) ?_
    refine W.lcmp C.1 C.2.1 dX0_in_9 ?_
    refine lv_if_gt (tgt := 17) C.1 C.2.1 dX0_in_10 (by decide) (fun h10 => ?_) (fun h10 => ?_)
    · replace hf := hf.1 ((lg_cmp_gt _ _).mp h10)
      refine lv_iconst (v := 0) C.1 C.2.1 dX0_in_17 rfl ?_
      exact hret _ _ _ hf (Or.inl rfl) dX0_in_18
    · replace hf := hf.2 (fun q => h10 ((lg_cmp_gt _ _).mpr q))
      refine lv_iconst (v := 1) C.1 C.2.1 dX0_in_13 rfl ?_
      refine lv_goto (tgt := 18) C.1 C.2.1 dX0_in_14 (by decide) ?_
      exact hret _ _ _ hf (Or.inr rfl) dX0_in_18
def fx_in (x0 : Int64) (x2 : Int64) (x4 : Int64) : Int32 :=
  (if x0 < x2 then 0 else (if x4 < x0 then 0 else 1))
theorem fx_in_z {x0 : Int64} {x2 : Int64} {x4 : Int64} : zB (fx_in x0 x2 x4) := by
  unfold fx_in
  repeat' split
  all_goals first | exact Or.inl rfl | exact Or.inr rfl
theorem x_in_f {Q : Int32 → Prop} {x0 : Int64} {x2 : Int64} {x4 : Int64} (h : Q (fx_in x0 x2 x4)) : x_in x0 x2 x4 Q := by
  unfold fx_in at h
  unfold x_in
  refine ⟨fun c => ?_, fun c => ?_⟩
  · rw [if_pos c] at h
    exact h
  · rw [if_neg c] at h
    refine ⟨fun c => ?_, fun c => ?_⟩
    · rw [if_pos c] at h
      exact h
    · rw [if_neg c] at h
      exact h
theorem kx_in {p : Program} {l : Launch} {e : Env} {R : Room} {s : State} {m : MethodId} {args : Array Value} {below : List Frame} {meth : Method} {c : Code} {H : Heap} {locs : List Loc} {Z : State → Prop} {cc : ByteArray} {nL pc : Nat} {ls : Array Slot} {rest : List Value} {x0 : Int64} {x2 : Int64} {x4 : Int64} (C : CallFix p m c cc nL s args lw_all RX0) (hsz : ls.size = nL) (hrm : (rest.map fun v => v.category).sum ≤ 8) (hR : rm_x_in.frames + 1 ≤ R.frames ∧ 8 + (6 + 11) + rm_x_in.locals ≤ R.locals) (hdg : decode cc pc = .ok (.invokestatic 219, 3)) (kk : W p l e R s m args below meth c H locs 0 0 Z (F0 m (pc + 3) ls (.int (fx_in x0 x2 x4) :: rest))) : W p l e R s m args below meth c H locs 0 0 Z (F0 m pc ls (.long x4 :: .long x2 :: .long x0 :: rest)) :=
  g_callSRf (As := [.long x0, .long x2, .long x4]) (rest := rest) C (met_x_in l x0 x2 x4 (fun r => r = fx_in x0 x2 x4) (x_in_f rfl)) (va_cwS 3 C.2.2.2.2 (lw_S q862 q719 q200 q720) rfl rfl rfl (by decide +kernel) hR) rfl hsz rfl hrm ⟨Nat.zero_le _, Nat.zero_le _⟩ hdg kk
def x_has (x0 : Int32) (x1 : Int32) (Q : Int32 → Prop) : Prop :=
  ((((x0 >>> (x1 &&& 31)) &&& 1) = 1 → Q 1) ∧ (¬ ((x0 >>> (x1 &&& 31)) &&& 1) = 1 → Q 0))
abbrev rm_x_has : Room := { frames := 0, cells := 0, slots := 0, locals := 0 }
set_option maxHeartbeats 4000000 in
theorem met_x_has (l : Launch) (x0 : Int32) (x1 : Int32) (Q : Int32 → Prop) (hf : x_has x0 x1 Q) : Met l yX0_has (ws_ yX0_has cX0_has 2 (some .boolean)) rm_x_has (va_Pc [.int x0, .int x1] (fun _ => True)) (gR rvI Q) 0 0 (fun _ => False) := by
  refine g_metSZ (by decide) (Nat.le_of_ble_eq_true rfl) ?_
  intro p e s m args below meth c QQ ls H C hl hret
  replace hl : lv_has ls 2 [(0, .int x0), (1, .int x1)] := hl
  unfold x_has at hf
  refine lv_iload_n C.1 C.2.1 dX0_has_0 rfl (lv_at hl 0 rfl) ?_
  refine lv_iload_n C.1 C.2.1 dX0_has_1 rfl (lv_at hl 1 rfl) ?_
  refine lv_ishr C.1 C.2.1 dX0_has_2 ?_
  refine lv_iconst (v := 1) C.1 C.2.1 dX0_has_3 rfl ?_
  refine lv_iand C.1 C.2.1 dX0_has_4 ?_
  refine lv_iconst (v := 1) C.1 C.2.1 dX0_has_5 rfl ?_
  refine lv_icmp_ne (tgt := 13) C.1 C.2.1 dX0_has_6 (by decide) (fun h6 => ?_) (fun h6 => ?_)
  · replace hf := hf.2 h6
    refine lv_iconst (v := 0) C.1 C.2.1 dX0_has_13 rfl ?_
    exact hret _ _ _ hf (Or.inl rfl) dX0_has_14
  · replace hf := hf.1 h6
    refine lv_iconst (v := 1) C.1 C.2.1 dX0_has_9 rfl ?_
    refine lv_goto (tgt := 14) C.1 C.2.1 dX0_has_10 (by decide) ?_
    exact hret _ _ _ hf (Or.inr rfl) dX0_has_14
def fx_has (x0 : Int32) (x1 : Int32) : Int32 :=
  (if ((x0 >>> (x1 &&& 31)) &&& 1) = 1 then 1 else 0)
theorem fx_has_z {x0 : Int32} {x1 : Int32} : zB (fx_has x0 x1) := by
  unfold fx_has
  repeat' split
  all_goals first | exact Or.inl rfl | exact Or.inr rfl
theorem x_has_f {Q : Int32 → Prop} {x0 : Int32} {x1 : Int32} (h : Q (fx_has x0 x1)) : x_has x0 x1 Q := by
  unfold fx_has at h
  unfold x_has
  refine ⟨fun c => ?_, fun c => ?_⟩
  · rw [if_pos c] at h
    exact h
  · rw [if_neg c] at h
    exact h
theorem kx_has {p : Program} {l : Launch} {e : Env} {R : Room} {s : State} {m : MethodId} {args : Array Value} {below : List Frame} {meth : Method} {c : Code} {H : Heap} {locs : List Loc} {Z : State → Prop} {cc : ByteArray} {nL pc : Nat} {ls : Array Slot} {rest : List Value} {x0 : Int32} {x1 : Int32} (C : CallFix p m c cc nL s args lw_all RX0) (hsz : ls.size = nL) (hrm : (rest.map fun v => v.category).sum ≤ 8) (hR : rm_x_has.frames + 1 ≤ R.frames ∧ 8 + (2 + 11) + rm_x_has.locals ≤ R.locals) (hdg : decode cc pc = .ok (.invokestatic 211, 3)) (kk : W p l e R s m args below meth c H locs 0 0 Z (F0 m (pc + 3) ls (.int (fx_has x0 x1) :: rest))) : W p l e R s m args below meth c H locs 0 0 Z (F0 m pc ls (.int x1 :: .int x0 :: rest)) :=
  g_callSRf (As := [.int x0, .int x1]) (rest := rest) C (met_x_has l x0 x1 (fun r => r = fx_has x0 x1) (x_has_f rfl)) (va_cwS 2 C.2.2.2.2 (lw_S q316 q317 q200 q318) rfl rfl rfl (by decide +kernel) hR) rfl hsz rfl hrm ⟨Nat.zero_le _, Nat.zero_le _⟩ hdg kk
def x_more (x0 : Int32) (x1 : Int32) (Q : Int32 → Prop) : Prop :=
  ((x0 = (-3) → Q (-3)) ∧ (¬ x0 = (-3) → ((x1 = (-3) → Q (-3)) ∧ (¬ x1 = (-3) → ((x0 = (-2) → Q (-2)) ∧ (¬ x0 = (-2) → ((x1 = (-2) → Q (-2)) ∧ (¬ x1 = (-2) → (((2147483647 - x1) < x0 → Q (-2)) ∧ (¬ (2147483647 - x1) < x0 → Q (x0 + x1)))))))))))
abbrev rm_x_more : Room := { frames := 0, cells := 0, slots := 0, locals := 0 }
set_option maxHeartbeats 4000000 in
theorem met_x_more (l : Launch) (x0 : Int32) (x1 : Int32) (Q : Int32 → Prop) (hf : x_more x0 x1 Q) : Met l yX0_more (ws_ yX0_more cX0_more 2 (some .int)) rm_x_more (va_Pc [.int x0, .int x1] (fun _ => True)) (gR rvI Q) 0 0 (fun _ => False) := by
  refine g_metSI (by decide) (Nat.le_of_ble_eq_true rfl) ?_
  intro p e s m args below meth c QQ ls H C hl hret
  replace hl : lv_has ls 2 [(0, .int x0), (1, .int x1)] := hl
  unfold x_more at hf
  refine lv_iload_n C.1 C.2.1 dX0_more_0 rfl (lv_at hl 0 rfl) ?_
  refine lv_bipush (v := (-3)) C.1 C.2.1 dX0_more_1 rfl ?_
  refine lv_icmp_eq (tgt := 12) C.1 C.2.1 dX0_more_3 (by decide) (fun h3 => ?_) (fun h3 => ?_)
  · replace hf := hf.1 h3
    refine lv_bipush (v := (-3)) C.1 C.2.1 dX0_more_12 rfl ?_
    exact hret _ _ _ hf dX0_more_14
  · replace hf := hf.2 h3
    refine lv_iload_n C.1 C.2.1 dX0_more_6 rfl (lv_at hl 1 rfl) ?_
    refine lv_bipush (v := (-3)) C.1 C.2.1 dX0_more_7 rfl ?_
    refine lv_icmp_ne (tgt := 15) C.1 C.2.1 dX0_more_9 (by decide) (fun h9 => ?_) (fun h9 => ?_)
    · replace hf := hf.2 h9
      refine lv_iload_n C.1 C.2.1 dX0_more_15 rfl (lv_at hl 0 rfl) ?_
      refine lv_bipush (v := (-2)) C.1 C.2.1 dX0_more_16 rfl ?_
      refine lv_icmp_eq (tgt := 27) C.1 C.2.1 dX0_more_18 (by decide) (fun h18 => ?_) (fun h18 => ?_)
      · replace hf := hf.1 h18
        refine lv_bipush (v := (-2)) C.1 C.2.1 dX0_more_27 rfl ?_
        exact hret _ _ _ hf dX0_more_29
      · replace hf := hf.2 h18
        refine lv_iload_n C.1 C.2.1 dX0_more_21 rfl (lv_at hl 1 rfl) ?_
        refine lv_bipush (v := (-2)) C.1 C.2.1 dX0_more_22 rfl ?_
        refine lv_icmp_ne (tgt := 30) C.1 C.2.1 dX0_more_24 (by decide) (fun h24 => ?_) (fun h24 => ?_)
        · replace hf := hf.2 h24
          refine lv_iload_n C.1 C.2.1 dX0_more_30 rfl (lv_at hl 0 rfl) ?_
          refine lv_ldc C.1 C.2.1 C.2.2.2.1 (C.2.2.2.2 _ q351) dX0_more_31 ?_
          refine lv_iload_n C.1 C.2.1 dX0_more_33 rfl (lv_at hl 1 rfl) ?_
          refine lv_isub C.1 C.2.1 dX0_more_34 ?_
          refine lv_icmp_gt (tgt := 44) C.1 C.2.1 dX0_more_35 (by decide) (fun h35 => ?_) (fun h35 => ?_)
          · replace hf := hf.1 h35
            refine lv_bipush (v := (-2)) C.1 C.2.1 dX0_more_44 rfl ?_
            exact hret _ _ _ hf dX0_more_46
          · replace hf := hf.2 h35
            refine lv_iload_n C.1 C.2.1 dX0_more_38 rfl (lv_at hl 0 rfl) ?_
            refine lv_iload_n C.1 C.2.1 dX0_more_39 rfl (lv_at hl 1 rfl) ?_
            refine lv_iadd C.1 C.2.1 dX0_more_40 ?_
            refine lv_goto (tgt := 46) C.1 C.2.1 dX0_more_41 (by decide) ?_
            exact hret _ _ _ hf dX0_more_46
        · replace hf := hf.1 h24
          refine lv_bipush (v := (-2)) C.1 C.2.1 dX0_more_27 rfl ?_
          exact hret _ _ _ hf dX0_more_29
    · replace hf := hf.1 h9
      refine lv_bipush (v := (-3)) C.1 C.2.1 dX0_more_12 rfl ?_
      exact hret _ _ _ hf dX0_more_14
def fx_more (x0 : Int32) (x1 : Int32) : Int32 :=
  (if x0 = (-3) then (-3) else (if x1 = (-3) then (-3) else (if x0 = (-2) then (-2) else (if x1 = (-2) then (-2) else (if (2147483647 - x1) < x0 then (-2) else (x0 + x1))))))
theorem x_more_f {Q : Int32 → Prop} {x0 : Int32} {x1 : Int32} (h : Q (fx_more x0 x1)) : x_more x0 x1 Q := by
  unfold fx_more at h
  unfold x_more
  refine ⟨fun c => ?_, fun c => ?_⟩
  · rw [if_pos c] at h
    exact h
  · rw [if_neg c] at h
    refine ⟨fun c => ?_, fun c => ?_⟩
    · rw [if_pos c] at h
      exact h
    · rw [if_neg c] at h
      refine ⟨fun c => ?_, fun c => ?_⟩
      · rw [if_pos c] at h
        exact h
      · rw [if_neg c] at h
        refine ⟨fun c => ?_, fun c => ?_⟩
        · rw [if_pos c] at h
          exact h
        · rw [if_neg c] at h
          refine ⟨fun c => ?_, fun c => ?_⟩
          · rw [if_pos c] at h
            exact h
          · rw [if_neg c] at h
            exact h
theorem kx_more {p : Program} {l : Launch} {e : Env} {R : Room} {s : State} {m : MethodId} {args : Array Value} {below : List Frame} {meth : Method} {c : Code} {H : Heap} {locs : List Loc} {Z : State → Prop} {cc : ByteArray} {nL pc : Nat} {ls : Array Slot} {rest : List Value} {x0 : Int32} {x1 : Int32} (C : CallFix p m c cc nL s args lw_all RX0) (hsz : ls.size = nL) (hrm : (rest.map fun v => v.category).sum ≤ 8) (hR : rm_x_more.frames + 1 ≤ R.frames ∧ 8 + (2 + 11) + rm_x_more.locals ≤ R.locals) (hdg : decode cc pc = .ok (.invokestatic 552, 3)) (kk : W p l e R s m args below meth c H locs 0 0 Z (F0 m (pc + 3) ls (.int (fx_more x0 x1) :: rest))) : W p l e R s m args below meth c H locs 0 0 Z (F0 m pc ls (.int x1 :: .int x0 :: rest)) :=
  g_callSRf (As := [.int x0, .int x1]) (rest := rest) C (met_x_more l x0 x1 (fun r => r = fx_more x0 x1) (x_more_f rfl)) (va_cwS 2 C.2.2.2.2 (lw_S q348 q349 q200 q350) rfl rfl rfl (by decide +kernel) hR) rfl hsz rfl hrm ⟨Nat.zero_le _, Nat.zero_le _⟩ hdg kk
def x_times (x0 : Int32) (x1 : Int32) (Q : Int32 → Prop) : Prop :=
  ((x0 = 0 → Q 0) ∧ (¬ x0 = 0 → ((x1 = 0 → Q 0) ∧ (¬ x1 = 0 → ((x0 = (-3) → Q (-3)) ∧ (¬ x0 = (-3) → ((x1 = (-3) → Q (-3)) ∧ (¬ x1 = (-3) → ((x0 = (-2) → Q (-2)) ∧ (¬ x0 = (-2) → ((x1 = (-2) → Q (-2)) ∧ (¬ x1 = (-2) → (¬ x1 = 0 ∧ (((2147483647 / x1) < x0 → Q (-2)) ∧ (¬ (2147483647 / x1) < x0 → Q (x0 * x1))))))))))))))))
abbrev rm_x_times : Room := { frames := 0, cells := 0, slots := 0, locals := 0 }
set_option maxHeartbeats 4000000 in
theorem met_x_times (l : Launch) (x0 : Int32) (x1 : Int32) (Q : Int32 → Prop) (hf : x_times x0 x1 Q) : Met l yX0_times (ws_ yX0_times cX0_times 2 (some .int)) rm_x_times (va_Pc [.int x0, .int x1] (fun _ => True)) (gR rvI Q) 0 0 (fun _ => False) := by
  refine g_metSI (by decide) (Nat.le_of_ble_eq_true rfl) ?_
  intro p e s m args below meth c QQ ls H C hl hret
  replace hl : lv_has ls 2 [(0, .int x0), (1, .int x1)] := hl
  unfold x_times at hf
  refine lv_iload_n C.1 C.2.1 dX0_times_0 rfl (lv_at hl 0 rfl) ?_
  refine lv_if_eq (tgt := 8) C.1 C.2.1 dX0_times_1 (by decide) (fun h1 => ?_) (fun h1 => ?_)
  · replace hf := hf.1 h1
    refine lv_iconst (v := 0) C.1 C.2.1 dX0_times_8 rfl ?_
    exact hret _ _ _ hf dX0_times_9
  · replace hf := hf.2 h1
    refine lv_iload_n C.1 C.2.1 dX0_times_4 rfl (lv_at hl 1 rfl) ?_
    refine lv_if_ne (tgt := 10) C.1 C.2.1 dX0_times_5 (by decide) (fun h5 => ?_) (fun h5 => ?_)
    · replace hf := hf.2 h5
      refine lv_iload_n C.1 C.2.1 dX0_times_10 rfl (lv_at hl 0 rfl) ?_
      refine lv_bipush (v := (-3)) C.1 C.2.1 dX0_times_11 rfl ?_
      refine lv_icmp_eq (tgt := 22) C.1 C.2.1 dX0_times_13 (by decide) (fun h13 => ?_) (fun h13 => ?_)
      · replace hf := hf.1 h13
        refine lv_bipush (v := (-3)) C.1 C.2.1 dX0_times_22 rfl ?_
        exact hret _ _ _ hf dX0_times_24
      · replace hf := hf.2 h13
        refine lv_iload_n C.1 C.2.1 dX0_times_16 rfl (lv_at hl 1 rfl) ?_
        refine lv_bipush (v := (-3)) C.1 C.2.1 dX0_times_17 rfl ?_
        refine lv_icmp_ne (tgt := 25) C.1 C.2.1 dX0_times_19 (by decide) (fun h19 => ?_) (fun h19 => ?_)
        · replace hf := hf.2 h19
          refine lv_iload_n C.1 C.2.1 dX0_times_25 rfl (lv_at hl 0 rfl) ?_
          refine lv_bipush (v := (-2)) C.1 C.2.1 dX0_times_26 rfl ?_
          refine lv_icmp_eq (tgt := 37) C.1 C.2.1 dX0_times_28 (by decide) (fun h28 => ?_) (fun h28 => ?_)
          · replace hf := hf.1 h28
            refine lv_bipush (v := (-2)) C.1 C.2.1 dX0_times_37 rfl ?_
            exact hret _ _ _ hf dX0_times_39
          · replace hf := hf.2 h28
            refine lv_iload_n C.1 C.2.1 dX0_times_31 rfl (lv_at hl 1 rfl) ?_
            refine lv_bipush (v := (-2)) C.1 C.2.1 dX0_times_32 rfl ?_
            refine lv_icmp_ne (tgt := 40) C.1 C.2.1 dX0_times_34 (by decide) (fun h34 => ?_) (fun h34 => ?_)
            · replace hf := hf.2 h34
              refine lv_iload_n C.1 C.2.1 dX0_times_40 rfl (lv_at hl 0 rfl) ?_
              refine lv_ldc C.1 C.2.1 C.2.2.2.1 (C.2.2.2.2 _ q351) dX0_times_41 ?_
              refine lv_iload_n C.1 C.2.1 dX0_times_43 rfl (lv_at hl 1 rfl) ?_
              obtain ⟨h44, hf⟩ := hf
              refine lv_idiv C.1 C.2.1 dX0_times_44 h44 ?_
              refine lv_icmp_gt (tgt := 54) C.1 C.2.1 dX0_times_45 (by decide) (fun h45 => ?_) (fun h45 => ?_)
              · replace hf := hf.1 h45
                refine lv_bipush (v := (-2)) C.1 C.2.1 dX0_times_54 rfl ?_
                exact hret _ _ _ hf dX0_times_56
              · replace hf := hf.2 h45
                refine lv_iload_n C.1 C.2.1 dX0_times_48 rfl (lv_at hl 0 rfl) ?_
                refine lv_iload_n C.1 C.2.1 dX0_times_49 rfl (lv_at hl 1 rfl) ?_
                refine lv_imul C.1 C.2.1 dX0_times_50 ?_
                refine lv_goto (tgt := 56) C.1 C.2.1 dX0_times_51 (by decide) ?_
                exact hret _ _ _ hf dX0_times_56
            · replace hf := hf.1 h34
              refine lv_bipush (v := (-2)) C.1 C.2.1 dX0_times_37 rfl ?_
              exact hret _ _ _ hf dX0_times_39
        · replace hf := hf.1 h19
          refine lv_bipush (v := (-3)) C.1 C.2.1 dX0_times_22 rfl ?_
          exact hret _ _ _ hf dX0_times_24
    · replace hf := hf.1 h5
      refine lv_iconst (v := 0) C.1 C.2.1 dX0_times_8 rfl ?_
      exact hret _ _ _ hf dX0_times_9
def fx_times (x0 : Int32) (x1 : Int32) : Int32 :=
  (if x0 = 0 then 0 else (if x1 = 0 then 0 else (if x0 = (-3) then (-3) else (if x1 = (-3) then (-3) else (if x0 = (-2) then (-2) else (if x1 = (-2) then (-2) else (if (2147483647 / x1) < x0 then (-2) else (x0 * x1))))))))
theorem x_times_f {Q : Int32 → Prop} {x0 : Int32} {x1 : Int32} (h : Q (fx_times x0 x1)) : x_times x0 x1 Q := by
  unfold fx_times at h
  unfold x_times
  refine ⟨fun c => ?_, fun c => ?_⟩
  · rw [if_pos c] at h
    exact h
  · rw [if_neg c] at h
    refine ⟨fun c => ?_, fun c => ?_⟩
    · rw [if_pos c] at h
      exact h
    · rw [if_neg c] at h
      refine ⟨fun c => ?_, fun c => ?_⟩
      · rw [if_pos c] at h
        exact h
      · rw [if_neg c] at h
        refine ⟨fun c => ?_, fun c => ?_⟩
        · rw [if_pos c] at h
          exact h
        · rw [if_neg c] at h
          refine ⟨fun c => ?_, fun c => ?_⟩
          · rw [if_pos c] at h
            exact h
          · rw [if_neg c] at h
            refine ⟨fun c => ?_, fun c => ?_⟩
            · rw [if_pos c] at h
              exact h
            · rw [if_neg c] at h
              refine ⟨by assumption, ?_⟩
              refine ⟨fun c => ?_, fun c => ?_⟩
              · rw [if_pos c] at h
                exact h
              · rw [if_neg c] at h
                exact h
def x_together (x0 : Int32) (x1 : Int32) (Q : Int32 → Prop) : Prop :=
  (((2000000000 - x1) < x0 → Q 2000000000) ∧ (¬ (2000000000 - x1) < x0 → Q (x0 + x1)))
abbrev rm_x_together : Room := { frames := 0, cells := 0, slots := 0, locals := 0 }
set_option maxHeartbeats 4000000 in
theorem met_x_together (l : Launch) (x0 : Int32) (x1 : Int32) (Q : Int32 → Prop) (hf : x_together x0 x1 Q) : Met l yX0_together (ws_ yX0_together cX0_together 2 (some .int)) rm_x_together (va_Pc [.int x0, .int x1] (fun _ => True)) (gR rvI Q) 0 0 (fun _ => False) := by
  refine g_metSI (by decide) (Nat.le_of_ble_eq_true rfl) ?_
  intro p e s m args below meth c QQ ls H C hl hret
  replace hl : lv_has ls 2 [(0, .int x0), (1, .int x1)] := hl
  unfold x_together at hf
  refine lv_iload_n C.1 C.2.1 dX0_together_0 rfl (lv_at hl 0 rfl) ?_
  refine lv_ldc C.1 C.2.1 C.2.2.2.1 (C.2.2.2.2 _ q355) dX0_together_1 ?_
  refine lv_iload_n C.1 C.2.1 dX0_together_3 rfl (lv_at hl 1 rfl) ?_
  refine lv_isub C.1 C.2.1 dX0_together_4 ?_
  refine lv_icmp_gt (tgt := 14) C.1 C.2.1 dX0_together_5 (by decide) (fun h5 => ?_) (fun h5 => ?_)
  · replace hf := hf.1 h5
    refine lv_ldc C.1 C.2.1 C.2.2.2.1 (C.2.2.2.2 _ q355) dX0_together_14 ?_
    exact hret _ _ _ hf dX0_together_16
  · replace hf := hf.2 h5
    refine lv_iload_n C.1 C.2.1 dX0_together_8 rfl (lv_at hl 0 rfl) ?_
    refine lv_iload_n C.1 C.2.1 dX0_together_9 rfl (lv_at hl 1 rfl) ?_
    refine lv_iadd C.1 C.2.1 dX0_together_10 ?_
    refine lv_goto (tgt := 16) C.1 C.2.1 dX0_together_11 (by decide) ?_
    exact hret _ _ _ hf dX0_together_16
def fx_together (x0 : Int32) (x1 : Int32) : Int32 :=
  (if (2000000000 - x1) < x0 then 2000000000 else (x0 + x1))
theorem x_together_f {Q : Int32 → Prop} {x0 : Int32} {x1 : Int32} (h : Q (fx_together x0 x1)) : x_together x0 x1 Q := by
  unfold fx_together at h
  unfold x_together
  refine ⟨fun c => ?_, fun c => ?_⟩
  · rw [if_pos c] at h
    exact h
  · rw [if_neg c] at h
    exact h
theorem kx_together {p : Program} {l : Launch} {e : Env} {R : Room} {s : State} {m : MethodId} {args : Array Value} {below : List Frame} {meth : Method} {c : Code} {H : Heap} {locs : List Loc} {Z : State → Prop} {cc : ByteArray} {nL pc : Nat} {ls : Array Slot} {rest : List Value} {x0 : Int32} {x1 : Int32} (C : CallFix p m c cc nL s args lw_all RX0) (hsz : ls.size = nL) (hrm : (rest.map fun v => v.category).sum ≤ 8) (hR : rm_x_together.frames + 1 ≤ R.frames ∧ 8 + (2 + 11) + rm_x_together.locals ≤ R.locals) (hdg : decode cc pc = .ok (.invokestatic 323, 3)) (kk : W p l e R s m args below meth c H locs 0 0 Z (F0 m (pc + 3) ls (.int (fx_together x0 x1) :: rest))) : W p l e R s m args below meth c H locs 0 0 Z (F0 m pc ls (.int x1 :: .int x0 :: rest)) :=
  g_callSRf (As := [.int x0, .int x1]) (rest := rest) C (met_x_together l x0 x1 (fun r => r = fx_together x0 x1) (x_together_f rfl)) (va_cwS 2 C.2.2.2.2 (lw_S q792 q372 q200 q373) rfl rfl rfl (by decide +kernel) hR) rfl hsz rfl hrm ⟨Nat.zero_le _, Nat.zero_le _⟩ hdg kk
def x_isRule (σ : St) (x1 : Int32) (Q : Int32 → Prop) : Prop :=
  ((x1 < 0 → Q 0) ∧ (¬ x1 < 0 → (((σ.1 80) ≤ x1 → Q 0) ∧ (¬ (σ.1 80) ≤ x1 → Q 1))))
abbrev rm_x_isRule : Room := { frames := 0, cells := 0, slots := 0, locals := 0 }
set_option maxHeartbeats 4000000 in
theorem met_x_isRule (l : Launch) (D : va_G) (ct : Ct) (ad : Nat → Nat) (hJ : gJ shX ad ct) (σ : St) (x1 : Int32) (Q : Int32 → Prop) (hf : x_isRule σ x1 Q) : Met l yX0_isRule (ws_ yX0_isRule cX0_isRule 2 (some .boolean)) rm_x_isRule (va_Pc [.ref (ad 0), .int x1] (gP D ct shX ad σ)) (gR rvI Q) 0 0 (fun _ => False) := by
  refine g_metRZ hJ (by decide) (Nat.le_of_ble_eq_true rfl) ?_
  intro p e s m args below meth c QQ ls H C hw hl hret
  replace hl : lv_has ls 2 [(0, .ref (ad 0)), (1, .int x1)] := hl
  unfold x_isRule at hf
  refine lv_aload_n C.1 C.2.1 dX0_isRule_0 rfl (lv_at hl 0 rfl) ?_
  refine xg_grammar C hw dX0_isRule_1 ?_
  refine lv_ifnull C.1 C.2.1 dX0_isRule_4 ?_
  refine lv_iload_n C.1 C.2.1 dX0_isRule_7 rfl (lv_at hl 1 rfl) ?_
  refine lv_if_lt (tgt := 26) C.1 C.2.1 dX0_isRule_8 (by decide) (fun h8 => ?_) (fun h8 => ?_)
  · replace hf := hf.1 h8
    refine lv_iconst (v := 0) C.1 C.2.1 dX0_isRule_26 rfl ?_
    exact hret _ _ _ hf (Or.inl rfl) dX0_isRule_27
  · replace hf := hf.2 h8
    refine lv_iload_n C.1 C.2.1 dX0_isRule_11 rfl (lv_at hl 1 rfl) ?_
    refine lv_aload_n C.1 C.2.1 dX0_isRule_12 rfl (lv_at hl 0 rfl) ?_
    refine xg_grammar C hw dX0_isRule_13 ?_
    refine xn_many C hw dX0_isRule_16 ?_
    refine lv_icmp_ge (tgt := 26) C.1 C.2.1 dX0_isRule_19 (by decide) (fun h19 => ?_) (fun h19 => ?_)
    · replace hf := hf.1 h19
      refine lv_iconst (v := 0) C.1 C.2.1 dX0_isRule_26 rfl ?_
      exact hret _ _ _ hf (Or.inl rfl) dX0_isRule_27
    · replace hf := hf.2 h19
      refine lv_iconst (v := 1) C.1 C.2.1 dX0_isRule_22 rfl ?_
      refine lv_goto (tgt := 27) C.1 C.2.1 dX0_isRule_23 (by decide) ?_
      exact hret _ _ _ hf (Or.inr rfl) dX0_isRule_27
def fx_isRule (σ : St) (x1 : Int32) : Int32 :=
  (if x1 < 0 then 0 else (if (σ.1 80) ≤ x1 then 0 else 1))
theorem fx_isRule_z {σ : St} {x1 : Int32} : zB (fx_isRule σ x1) := by
  unfold fx_isRule
  repeat' split
  all_goals first | exact Or.inl rfl | exact Or.inr rfl
theorem x_isRule_f {Q : Int32 → Prop} {σ : St} {x1 : Int32} (h : Q (fx_isRule σ x1)) : x_isRule σ x1 Q := by
  unfold fx_isRule at h
  unfold x_isRule
  refine ⟨fun c => ?_, fun c => ?_⟩
  · rw [if_pos c] at h
    exact h
  · rw [if_neg c] at h
    refine ⟨fun c => ?_, fun c => ?_⟩
    · rw [if_pos c] at h
      exact h
    · rw [if_neg c] at h
      exact h
theorem kx_isRule {p : Program} {l : Launch} {e : Env} {R : Room} {s : State} {m : MethodId} {args : Array Value} {below : List Frame} {meth : Method} {c : Code} {H : Heap} {locs : List Loc} {Z : State → Prop} {cc : ByteArray} {nL pc : Nat} {ls : Array Slot} {rest : List Value} {D : va_G} {ct : Ct} {ad : Nat → Nat} {σ : St} {x1 : Int32} (C : CallFix p m c cc nL s args lw_all RX0) (hw : gH D ct shX ad s σ H locs) (hsz : ls.size = nL) (hrm : (rest.map fun v => v.category).sum ≤ 8) (hR : rm_x_isRule.frames + 1 ≤ R.frames ∧ 8 + (2 + 11) + rm_x_isRule.locals ≤ R.locals) (hdg : decode cc pc = .ok (.invokevirtual 301, 3)) (kk : W p l e R s m args below meth c H locs 0 0 Z (F0 m (pc + 3) ls (.int (fx_isRule σ x1) :: rest))) : W p l e R s m args below meth c H locs 0 0 Z (F0 m pc ls (.int x1 :: .ref (ad 0) :: rest)) :=
  g_callVRf (As := [.int x1]) (rest := rest) C hw rfl rfl (met_x_isRule l D ct ad hw.2.1 σ x1 (fun r => r = fx_isRule σ x1) (x_isRule_f rfl)) (cwV 1 C.2.2.2.2 (lw_V q840 q842 qs43 q200 q843) rfl rfl rfl (by decide +kernel) hR) rfl hsz rfl hrm ⟨Nat.zero_le _, Nat.zero_le _⟩ hdg kk
def x_isCapital (x0 : Int32) (Q : Int32 → Prop) : Prop :=
  ((x0 < 26 → Q 0) ∧ (¬ x0 < 26 → Q 1))
abbrev rm_x_isCapital : Room := { frames := 0, cells := 0, slots := 0, locals := 0 }
set_option maxHeartbeats 4000000 in
theorem met_x_isCapital (l : Launch) (x0 : Int32) (Q : Int32 → Prop) (hf : x_isCapital x0 Q) : Met l yX0_isCapital (ws_ yX0_isCapital cX0_isCapital 1 (some .boolean)) rm_x_isCapital (va_Pc [.int x0] (fun _ => True)) (gR rvI Q) 0 0 (fun _ => False) := by
  refine g_metSZ (by decide) (Nat.le_of_ble_eq_true rfl) ?_
  intro p e s m args below meth c QQ ls H C hl hret
  replace hl : lv_has ls 1 [(0, .int x0)] := hl
  unfold x_isCapital at hf
  refine lv_iload_n C.1 C.2.1 dX0_isCapital_0 rfl (lv_at hl 0 rfl) ?_
  refine lv_bipush (v := 26) C.1 C.2.1 dX0_isCapital_1 rfl ?_
  refine lv_icmp_lt (tgt := 10) C.1 C.2.1 dX0_isCapital_3 (by decide) (fun h3 => ?_) (fun h3 => ?_)
  · replace hf := hf.1 h3
    refine lv_iconst (v := 0) C.1 C.2.1 dX0_isCapital_10 rfl ?_
    exact hret _ _ _ hf (Or.inl rfl) dX0_isCapital_11
  · replace hf := hf.2 h3
    refine lv_iconst (v := 1) C.1 C.2.1 dX0_isCapital_6 rfl ?_
    refine lv_goto (tgt := 11) C.1 C.2.1 dX0_isCapital_7 (by decide) ?_
    exact hret _ _ _ hf (Or.inr rfl) dX0_isCapital_11
def fx_isCapital (x0 : Int32) : Int32 :=
  (if x0 < 26 then 0 else 1)
theorem fx_isCapital_z {x0 : Int32} : zB (fx_isCapital x0) := by
  unfold fx_isCapital
  repeat' split
  all_goals first | exact Or.inl rfl | exact Or.inr rfl
theorem x_isCapital_f {Q : Int32 → Prop} {x0 : Int32} (h : Q (fx_isCapital x0)) : x_isCapital x0 Q := by
  unfold fx_isCapital at h
  unfold x_isCapital
  refine ⟨fun c => ?_, fun c => ?_⟩
  · rw [if_pos c] at h
    exact h
  · rw [if_neg c] at h
    exact h
theorem kx_isCapital {p : Program} {l : Launch} {e : Env} {R : Room} {s : State} {m : MethodId} {args : Array Value} {below : List Frame} {meth : Method} {c : Code} {H : Heap} {locs : List Loc} {Z : State → Prop} {cc : ByteArray} {nL pc : Nat} {ls : Array Slot} {rest : List Value} {x0 : Int32} (C : CallFix p m c cc nL s args lw_all RX0) (hsz : ls.size = nL) (hrm : (rest.map fun v => v.category).sum ≤ 8) (hR : rm_x_isCapital.frames + 1 ≤ R.frames ∧ 8 + (1 + 11) + rm_x_isCapital.locals ≤ R.locals) (hdg : decode cc pc = .ok (.invokestatic 311, 3)) (kk : W p l e R s m args below meth c H locs 0 0 Z (F0 m (pc + 3) ls (.int (fx_isCapital x0) :: rest))) : W p l e R s m args below meth c H locs 0 0 Z (F0 m pc ls (.int x0 :: rest)) :=
  g_callSRf (As := [.int x0]) (rest := rest) C (met_x_isCapital l x0 (fun r => r = fx_isCapital x0) (x_isCapital_f rfl)) (va_cwS 1 C.2.2.2.2 (lw_S q310 q311 q200 q312) rfl rfl rfl (by decide +kernel) hR) rfl hsz rfl hrm ⟨Nat.zero_le _, Nat.zero_le _⟩ hdg kk
def x_isOutranked (σ : St) (x1 : Int32) (x2 : Int32) (x3 : Int32) (Q : Int32 → Prop) : Prop :=
  (vp_in x1 12 ∧ (((gI σ 85 x1) ≤ 0 → Q 0) ∧ (¬ (gI σ 85 x1) ≤ 0 → (vp_in x3 12 ∧ (((gI σ 85 x3) ≤ 0 → Q 0) ∧ (¬ (gI σ 85 x3) ≤ 0 → (((gI σ 85 x1) ≤ (gI σ 85 x3) → Q 0) ∧ (¬ (gI σ 85 x1) ≤ (gI σ 85 x3) → Q 1))))))))
abbrev rm_x_isOutranked : Room := { frames := 0, cells := 0, slots := 0, locals := 0 }
set_option maxHeartbeats 4000000 in
theorem met_x_isOutranked (l : Launch) (D : va_G) (ct : Ct) (ad : Nat → Nat) (hJ : gJ shX ad ct) (σ : St) (x1 : Int32) (x2 : Int32) (x3 : Int32) (Q : Int32 → Prop) (hf : x_isOutranked σ x1 x2 x3 Q) : Met l yX0_isOutranked (ws_ yX0_isOutranked cX0_isOutranked 4 (some .boolean)) rm_x_isOutranked (va_Pc [.ref (ad 0), .int x1, .int x2, .int x3] (gP D ct shX ad σ)) (gR rvI Q) 0 0 (fun _ => False) := by
  refine g_metRZ hJ (by decide) (Nat.le_of_ble_eq_true rfl) ?_
  intro p e s m args below meth c QQ ls H C hw hl hret
  replace hl : lv_has ls 4 [(0, .ref (ad 0)), (1, .int x1), (2, .int x2), (3, .int x3)] := hl
  unfold x_isOutranked at hf
  refine lv_aload_n C.1 C.2.1 dX0_isOutranked_0 rfl (lv_at hl 0 rfl) ?_
  refine xg_grammar C hw dX0_isOutranked_1 ?_
  refine xn_rank C hw dX0_isOutranked_4 ?_
  refine lv_iload_n C.1 C.2.1 dX0_isOutranked_7 rfl (lv_at hl 1 rfl) ?_
  obtain ⟨b8, hf⟩ := hf
  refine g_iald C hw 85 rfl b8 dX0_isOutranked_8 ?_
  refine lv_if_le (tgt := 49) C.1 C.2.1 dX0_isOutranked_9 (by decide) (fun h9 => ?_) (fun h9 => ?_)
  · replace hf := hf.1 h9
    refine lv_iconst (v := 0) C.1 C.2.1 dX0_isOutranked_49 rfl ?_
    exact hret _ _ _ hf (Or.inl rfl) dX0_isOutranked_50
  · replace hf := hf.2 h9
    refine lv_aload_n C.1 C.2.1 dX0_isOutranked_12 rfl (lv_at hl 0 rfl) ?_
    refine xg_grammar C hw dX0_isOutranked_13 ?_
    refine xn_rank C hw dX0_isOutranked_16 ?_
    refine lv_iload_n C.1 C.2.1 dX0_isOutranked_19 rfl (lv_at hl 3 rfl) ?_
    obtain ⟨b20, hf⟩ := hf
    refine g_iald C hw 85 rfl b20 dX0_isOutranked_20 ?_
    refine lv_if_le (tgt := 49) C.1 C.2.1 dX0_isOutranked_21 (by decide) (fun h21 => ?_) (fun h21 => ?_)
    · replace hf := hf.1 h21
      refine lv_iconst (v := 0) C.1 C.2.1 dX0_isOutranked_49 rfl ?_
      exact hret _ _ _ hf (Or.inl rfl) dX0_isOutranked_50
    · replace hf := hf.2 h21
      refine lv_aload_n C.1 C.2.1 dX0_isOutranked_24 rfl (lv_at hl 0 rfl) ?_
      refine xg_grammar C hw dX0_isOutranked_25 ?_
      refine xn_rank C hw dX0_isOutranked_28 ?_
      refine lv_iload_n C.1 C.2.1 dX0_isOutranked_31 rfl (lv_at hl 3 rfl) ?_
      refine g_iald C hw 85 rfl b20 dX0_isOutranked_32 ?_
      refine lv_aload_n C.1 C.2.1 dX0_isOutranked_33 rfl (lv_at hl 0 rfl) ?_
      refine xg_grammar C hw dX0_isOutranked_34 ?_
      refine xn_rank C hw dX0_isOutranked_37 ?_
      refine lv_iload_n C.1 C.2.1 dX0_isOutranked_40 rfl (lv_at hl 1 rfl) ?_
      refine g_iald C hw 85 rfl b8 dX0_isOutranked_41 ?_
      refine lv_icmp_ge (tgt := 49) C.1 C.2.1 dX0_isOutranked_42 (by decide) (fun h42 => ?_) (fun h42 => ?_)
      · replace hf := hf.1 h42
        refine lv_iconst (v := 0) C.1 C.2.1 dX0_isOutranked_49 rfl ?_
        exact hret _ _ _ hf (Or.inl rfl) dX0_isOutranked_50
      · replace hf := hf.2 h42
        refine lv_iconst (v := 1) C.1 C.2.1 dX0_isOutranked_45 rfl ?_
        refine lv_goto (tgt := 50) C.1 C.2.1 dX0_isOutranked_46 (by decide) ?_
        exact hret _ _ _ hf (Or.inr rfl) dX0_isOutranked_50
def x_isOnSide (σ : St) (x1 : Int32) (x2 : Int32) (x3 : Int32) (Q : Int32 → Prop) : Prop :=
  (vp_in x1 12 ∧ (((gI σ 85 x1) = 0 → Q 0) ∧ (¬ (gI σ 85 x1) = 0 → (vp_in x3 12 ∧ (((gI σ 85 x1) = (gI σ 85 x3) → (vp_in x1 12 ∧ (((gI σ 86 x1) = 1 → ((x2 = 0 → Q 0) ∧ (¬ x2 = 0 → Q 1))) ∧ (¬ (gI σ 86 x1) = 1 → (((gI σ 86 x1) = 2 → (vp_in x1 12 ∧ ((x2 = ((gI σ 84 x1) - 1) → Q 0) ∧ (¬ x2 = ((gI σ 84 x1) - 1) → Q 1)))) ∧ (¬ (gI σ 86 x1) = 2 → (((gI σ 86 x1) = 3 → Q 1) ∧ (¬ (gI σ 86 x1) = 3 → Q 0)))))))) ∧ (¬ (gI σ 85 x1) = (gI σ 85 x3) → Q 0))))))
abbrev rm_x_isOnSide : Room := { frames := 0, cells := 0, slots := 0, locals := 0 }
set_option maxHeartbeats 4000000 in
theorem met_x_isOnSide (l : Launch) (D : va_G) (ct : Ct) (ad : Nat → Nat) (hJ : gJ shX ad ct) (σ : St) (x1 : Int32) (x2 : Int32) (x3 : Int32) (Q : Int32 → Prop) (hf : x_isOnSide σ x1 x2 x3 Q) : Met l yX0_isOnSide (ws_ yX0_isOnSide cX0_isOnSide 4 (some .boolean)) rm_x_isOnSide (va_Pc [.ref (ad 0), .int x1, .int x2, .int x3] (gP D ct shX ad σ)) (gR rvI Q) 0 0 (fun _ => False) := by
  refine g_metRZ hJ (by decide) (Nat.le_of_ble_eq_true rfl) ?_
  intro p e s m args below meth c QQ ls H C hw hl hret
  replace hl : lv_has ls 4 [(0, .ref (ad 0)), (1, .int x1), (2, .int x2), (3, .int x3)] := hl
  unfold x_isOnSide at hf
  refine lv_aload_n C.1 C.2.1 dX0_isOnSide_0 rfl (lv_at hl 0 rfl) ?_
  refine xg_grammar C hw dX0_isOnSide_1 ?_
  refine xn_rank C hw dX0_isOnSide_4 ?_
  refine lv_iload_n C.1 C.2.1 dX0_isOnSide_7 rfl (lv_at hl 1 rfl) ?_
  obtain ⟨b8, hf⟩ := hf
  refine g_iald C hw 85 rfl b8 dX0_isOnSide_8 ?_
  refine lv_if_eq (tgt := 33) C.1 C.2.1 dX0_isOnSide_9 (by decide) (fun h9 => ?_) (fun h9 => ?_)
  · replace hf := hf.1 h9
    refine lv_iconst (v := 0) C.1 C.2.1 dX0_isOnSide_33 rfl ?_
    exact hret _ _ _ hf (Or.inl rfl) dX0_isOnSide_34
  · replace hf := hf.2 h9
    refine lv_aload_n C.1 C.2.1 dX0_isOnSide_12 rfl (lv_at hl 0 rfl) ?_
    refine xg_grammar C hw dX0_isOnSide_13 ?_
    refine xn_rank C hw dX0_isOnSide_16 ?_
    refine lv_iload_n C.1 C.2.1 dX0_isOnSide_19 rfl (lv_at hl 1 rfl) ?_
    refine g_iald C hw 85 rfl b8 dX0_isOnSide_20 ?_
    refine lv_aload_n C.1 C.2.1 dX0_isOnSide_21 rfl (lv_at hl 0 rfl) ?_
    refine xg_grammar C hw dX0_isOnSide_22 ?_
    refine xn_rank C hw dX0_isOnSide_25 ?_
    refine lv_iload_n C.1 C.2.1 dX0_isOnSide_28 rfl (lv_at hl 3 rfl) ?_
    obtain ⟨b29, hf⟩ := hf
    refine g_iald C hw 85 rfl b29 dX0_isOnSide_29 ?_
    refine lv_icmp_eq (tgt := 35) C.1 C.2.1 dX0_isOnSide_30 (by decide) (fun h30 => ?_) (fun h30 => ?_)
    · replace hf := hf.1 h30
      refine lv_aload_n C.1 C.2.1 dX0_isOnSide_35 rfl (lv_at hl 0 rfl) ?_
      refine xg_grammar C hw dX0_isOnSide_36 ?_
      refine xn_side C hw dX0_isOnSide_39 ?_
      refine lv_iload_n C.1 C.2.1 dX0_isOnSide_42 rfl (lv_at hl 1 rfl) ?_
      obtain ⟨b43, hf⟩ := hf
      refine g_iald C hw 86 rfl b43 dX0_isOnSide_43 ?_
      by_cases h44_1 : (gI σ 86 x1) = 1
      · replace hf := hf.1 h44_1
        refine lv_tableIn (tgt := 72) C.1 C.2.1 dX0_isOnSide_44 (by rw [h44_1]; decide) (by rw [h44_1]; decide) (by rw [h44_1]; rfl) (by decide) ?_
        refine lv_iload_n C.1 C.2.1 dX0_isOnSide_72 rfl (lv_at hl 2 rfl) ?_
        refine lv_if_eq (tgt := 80) C.1 C.2.1 dX0_isOnSide_73 (by decide) (fun h73 => ?_) (fun h73 => ?_)
        · replace hf := hf.1 h73
          refine lv_iconst (v := 0) C.1 C.2.1 dX0_isOnSide_80 rfl ?_
          exact hret _ _ _ hf (Or.inl rfl) dX0_isOnSide_81
        · replace hf := hf.2 h73
          refine lv_iconst (v := 1) C.1 C.2.1 dX0_isOnSide_76 rfl ?_
          refine lv_goto (tgt := 81) C.1 C.2.1 dX0_isOnSide_77 (by decide) ?_
          exact hret _ _ _ hf (Or.inr rfl) dX0_isOnSide_81
      · replace hf := hf.2 h44_1
        by_cases h44_2 : (gI σ 86 x1) = 2
        · replace hf := hf.1 h44_2
          refine lv_tableIn (tgt := 82) C.1 C.2.1 dX0_isOnSide_44 (by rw [h44_2]; decide) (by rw [h44_2]; decide) (by rw [h44_2]; rfl) (by decide) ?_
          refine lv_iload_n C.1 C.2.1 dX0_isOnSide_82 rfl (lv_at hl 2 rfl) ?_
          refine lv_aload_n C.1 C.2.1 dX0_isOnSide_83 rfl (lv_at hl 0 rfl) ?_
          refine xg_grammar C hw dX0_isOnSide_84 ?_
          refine xn_size C hw dX0_isOnSide_87 ?_
          refine lv_iload_n C.1 C.2.1 dX0_isOnSide_90 rfl (lv_at hl 1 rfl) ?_
          obtain ⟨b91, hf⟩ := hf
          refine g_iald C hw 84 rfl b91 dX0_isOnSide_91 ?_
          refine lv_iconst (v := 1) C.1 C.2.1 dX0_isOnSide_92 rfl ?_
          refine lv_isub C.1 C.2.1 dX0_isOnSide_93 ?_
          refine lv_icmp_eq (tgt := 101) C.1 C.2.1 dX0_isOnSide_94 (by decide) (fun h94 => ?_) (fun h94 => ?_)
          · replace hf := hf.1 h94
            refine lv_iconst (v := 0) C.1 C.2.1 dX0_isOnSide_101 rfl ?_
            exact hret _ _ _ hf (Or.inl rfl) dX0_isOnSide_102
          · replace hf := hf.2 h94
            refine lv_iconst (v := 1) C.1 C.2.1 dX0_isOnSide_97 rfl ?_
            refine lv_goto (tgt := 102) C.1 C.2.1 dX0_isOnSide_98 (by decide) ?_
            exact hret _ _ _ hf (Or.inr rfl) dX0_isOnSide_102
        · replace hf := hf.2 h44_2
          by_cases h44_3 : (gI σ 86 x1) = 3
          · replace hf := hf.1 h44_3
            refine lv_tableIn (tgt := 103) C.1 C.2.1 dX0_isOnSide_44 (by rw [h44_3]; decide) (by rw [h44_3]; decide) (by rw [h44_3]; rfl) (by decide) ?_
            refine lv_iconst (v := 1) C.1 C.2.1 dX0_isOnSide_103 rfl ?_
            exact hret _ _ _ hf (Or.inr rfl) dX0_isOnSide_104
          · replace hf := hf.2 h44_3
            refine lv_tableOut (tgt := 105) C.1 C.2.1 dX0_isOnSide_44 (tb_out_1_3 h44_1 h44_2 h44_3) (by decide) ?_
            refine lv_iconst (v := 0) C.1 C.2.1 dX0_isOnSide_105 rfl ?_
            exact hret _ _ _ hf (Or.inl rfl) dX0_isOnSide_106
    · replace hf := hf.2 h30
      refine lv_iconst (v := 0) C.1 C.2.1 dX0_isOnSide_33 rfl ?_
      exact hret _ _ _ hf (Or.inl rfl) dX0_isOnSide_34
def x_banOf_p3 (σ : St) (x1 : Int32) (x2 : Int32) (x3 : Int32) (Q : Int32 → Prop) (K3 : Int32 → Prop) (x4 : Int32) : Prop :=
  (((σ.1 7) ≤ x4 → Q (-1)) ∧ (¬ (σ.1 7) ≤ x4 → (vp_in (3 * x4) 24 ∧ (((gI σ 6 (3 * x4)) = x1 → (vp_in ((3 * x4) + 1) 24 ∧ (((gI σ 6 ((3 * x4) + 1)) = x2 → (vp_in ((3 * x4) + 2) 24 ∧ (((gI σ 6 ((3 * x4) + 2)) = x3 → Q x4) ∧ (¬ (gI σ 6 ((3 * x4) + 2)) = x3 → K3 (x4 + 1))))) ∧ (¬ (gI σ 6 ((3 * x4) + 1)) = x2 → K3 (x4 + 1))))) ∧ (¬ (gI σ 6 (3 * x4)) = x1 → K3 (x4 + 1))))))
def x_banOf (σ : St) (x1 : Int32) (x2 : Int32) (x3 : Int32) (Q : Int32 → Prop) : Prop :=
  (Lp1 (x_banOf_p3 σ x1 x2 x3 Q) 0)
abbrev rm_x_banOf : Room := { frames := 0, cells := 0, slots := 0, locals := 0 }
set_option maxHeartbeats 4000000 in
theorem met_x_banOf (l : Launch) (D : va_G) (ct : Ct) (ad : Nat → Nat) (hJ : gJ shX ad ct) (σ : St) (x1 : Int32) (x2 : Int32) (x3 : Int32) (Q : Int32 → Prop) (hf : x_banOf σ x1 x2 x3 Q) : Met l yX0_banOf (ws_ yX0_banOf cX0_banOf 5 (some .int)) rm_x_banOf (va_Pc [.ref (ad 0), .int x1, .int x2, .int x3] (gP D ct shX ad σ)) (gR rvI Q) 0 0 (fun _ => False) := by
  refine g_metRI hJ (by decide) (Nat.le_of_ble_eq_true rfl) ?_
  intro p e s m args below meth c QQ ls H C hw hl hret
  replace hl : lv_has ls 5 [(0, .ref (ad 0)), (1, .int x1), (2, .int x2), (3, .int x3)] := hl
  have B3 : ∀ (x1 : Int32) (x2 : Int32) (x3 : Int32) (K3 : Int32 → Prop) (_ : ∀ (x4 : Int32) (ls : Array Slot), K3 x4 → lv_has ls 5 [(0, .ref (ad 0)), (1, .int x1), (2, .int x2), (3, .int x3), (4, .int x4)] → W p l e rm_x_banOf s m args below meth c H [] 0 0 QQ (F0 m 3 ls [])) (x4 : Int32) (ls : Array Slot), x_banOf_p3 σ x1 x2 x3 Q K3 x4 → lv_has ls 5 [(0, .ref (ad 0)), (1, .int x1), (2, .int x2), (3, .int x3), (4, .int x4)] → W p l e rm_x_banOf s m args below meth c H [] 0 0 QQ (F0 m 3 ls []) := by
    intro x1 x2 x3 K3 hK3 x4 ls hf hl
    unfold x_banOf_p3 at hf
    refine lv_iload C.1 C.2.1 dX0_banOf_3 (lv_at hl 4 rfl) ?_
    refine lv_aload_n C.1 C.2.1 dX0_banOf_5 rfl (lv_at hl 0 rfl) ?_
    refine xg_banMany C hw dX0_banOf_6 ?_
    refine lv_icmp_ge (tgt := 64) C.1 C.2.1 dX0_banOf_9 (by decide) (fun h9 => ?_) (fun h9 => ?_)
    · replace hf := hf.1 h9
      refine lv_iconst (v := (-1)) C.1 C.2.1 dX0_banOf_64 rfl ?_
      exact hret _ _ _ hf dX0_banOf_65
    · replace hf := hf.2 h9
      refine lv_aload_n C.1 C.2.1 dX0_banOf_12 rfl (lv_at hl 0 rfl) ?_
      refine xg_bans C hw dX0_banOf_13 ?_
      refine lv_iconst (v := 3) C.1 C.2.1 dX0_banOf_16 rfl ?_
      refine lv_iload C.1 C.2.1 dX0_banOf_17 (lv_at hl 4 rfl) ?_
      refine lv_imul C.1 C.2.1 dX0_banOf_19 ?_
      obtain ⟨b20, hf⟩ := hf
      refine g_iald C hw 6 rfl b20 dX0_banOf_20 ?_
      refine lv_iload_n C.1 C.2.1 dX0_banOf_21 rfl (lv_at hl 1 rfl) ?_
      refine lv_icmp_ne (tgt := 58) C.1 C.2.1 dX0_banOf_22 (by decide) (fun h22 => ?_) (fun h22 => ?_)
      · replace hf := hf.2 h22
        refine lv_iinc (v := (x4 + 1)) (lv' := [(4, .int (x4 + 1)), (0, .ref (ad 0)), (1, .int x1), (2, .int x2), (3, .int x3)]) C.1 C.2.1 dX0_banOf_58 hl (k := 4) rfl rfl (Nat.le_of_ble_eq_true rfl) rfl (fun ls hl => ?_)
        refine lv_goto (tgt := 3) C.1 C.2.1 dX0_banOf_61 (by decide) ?_
        exact hK3 _ _ hf (lv_sub hl [1, 2, 3, 4, 0] rfl)
      · replace hf := hf.1 h22
        refine lv_aload_n C.1 C.2.1 dX0_banOf_25 rfl (lv_at hl 0 rfl) ?_
        refine xg_bans C hw dX0_banOf_26 ?_
        refine lv_iconst (v := 3) C.1 C.2.1 dX0_banOf_29 rfl ?_
        refine lv_iload C.1 C.2.1 dX0_banOf_30 (lv_at hl 4 rfl) ?_
        refine lv_imul C.1 C.2.1 dX0_banOf_32 ?_
        refine lv_iconst (v := 1) C.1 C.2.1 dX0_banOf_33 rfl ?_
        refine lv_iadd C.1 C.2.1 dX0_banOf_34 ?_
        obtain ⟨b35, hf⟩ := hf
        refine g_iald C hw 6 rfl b35 dX0_banOf_35 ?_
        refine lv_iload_n C.1 C.2.1 dX0_banOf_36 rfl (lv_at hl 2 rfl) ?_
        refine lv_icmp_ne (tgt := 58) C.1 C.2.1 dX0_banOf_37 (by decide) (fun h37 => ?_) (fun h37 => ?_)
        · replace hf := hf.2 h37
          refine lv_iinc (v := (x4 + 1)) (lv' := [(4, .int (x4 + 1)), (0, .ref (ad 0)), (1, .int x1), (2, .int x2), (3, .int x3)]) C.1 C.2.1 dX0_banOf_58 hl (k := 4) rfl rfl (Nat.le_of_ble_eq_true rfl) rfl (fun ls hl => ?_)
          refine lv_goto (tgt := 3) C.1 C.2.1 dX0_banOf_61 (by decide) ?_
          exact hK3 _ _ hf (lv_sub hl [1, 2, 3, 4, 0] rfl)
        · replace hf := hf.1 h37
          refine lv_aload_n C.1 C.2.1 dX0_banOf_40 rfl (lv_at hl 0 rfl) ?_
          refine xg_bans C hw dX0_banOf_41 ?_
          refine lv_iconst (v := 3) C.1 C.2.1 dX0_banOf_44 rfl ?_
          refine lv_iload C.1 C.2.1 dX0_banOf_45 (lv_at hl 4 rfl) ?_
          refine lv_imul C.1 C.2.1 dX0_banOf_47 ?_
          refine lv_iconst (v := 2) C.1 C.2.1 dX0_banOf_48 rfl ?_
          refine lv_iadd C.1 C.2.1 dX0_banOf_49 ?_
          obtain ⟨b50, hf⟩ := hf
          refine g_iald C hw 6 rfl b50 dX0_banOf_50 ?_
          refine lv_iload_n C.1 C.2.1 dX0_banOf_51 rfl (lv_at hl 3 rfl) ?_
          refine lv_icmp_ne (tgt := 58) C.1 C.2.1 dX0_banOf_52 (by decide) (fun h52 => ?_) (fun h52 => ?_)
          · replace hf := hf.2 h52
            refine lv_iinc (v := (x4 + 1)) (lv' := [(4, .int (x4 + 1)), (0, .ref (ad 0)), (1, .int x1), (2, .int x2), (3, .int x3)]) C.1 C.2.1 dX0_banOf_58 hl (k := 4) rfl rfl (Nat.le_of_ble_eq_true rfl) rfl (fun ls hl => ?_)
            refine lv_goto (tgt := 3) C.1 C.2.1 dX0_banOf_61 (by decide) ?_
            exact hK3 _ _ hf (lv_sub hl [1, 2, 3, 4, 0] rfl)
          · replace hf := hf.1 h52
            refine lv_iload C.1 C.2.1 dX0_banOf_55 (lv_at hl 4 rfl) ?_
            exact hret _ _ _ hf dX0_banOf_57
  have P3 : ∀ (x1 : Int32) (x2 : Int32) (x3 : Int32) (n : Nat) (x4 : Int32) (ls : Array Slot), LL1 (x_banOf_p3 σ x1 x2 x3 Q) n x4 → lv_has ls 5 [(0, .ref (ad 0)), (1, .int x1), (2, .int x2), (3, .int x3), (4, .int x4)] → W p l e rm_x_banOf s m args below meth c H [] 0 0 QQ (F0 m 3 ls []) := by
    intro x1 x2 x3 n
    induction n with
    | zero => intro x4 ls hf; exact False.elim hf
    | succ n ih => intro x4 ls hf hl; exact B3 x1 x2 x3 (LL1 _ n) ih x4 ls hf hl
  unfold x_banOf at hf
  refine lv_iconst (v := 0) C.1 C.2.1 dX0_banOf_0 rfl ?_
  refine lv_istore (lv' := [(4, .int 0), (0, .ref (ad 0)), (1, .int x1), (2, .int x2), (3, .int x3)]) C.1 C.2.1 dX0_banOf_1 hl (Nat.le_of_ble_eq_true rfl) rfl (fun ls hl => ?_)
  obtain ⟨n, hf⟩ := hf
  exact P3 _ _ _ n _ _ hf (lv_sub hl [1, 2, 3, 4, 0] rfl)
theorem kx_banOf {p : Program} {l : Launch} {e : Env} {R : Room} {s : State} {m : MethodId} {args : Array Value} {below : List Frame} {meth : Method} {c : Code} {H : Heap} {locs : List Loc} {Z : State → Prop} {cc : ByteArray} {nL pc : Nat} {ls : Array Slot} {rest : List Value} {D : va_G} {ct : Ct} {ad : Nat → Nat} {σ : St} {x1 : Int32} {x2 : Int32} {x3 : Int32} {Qp : Int32 → Prop} (C : CallFix p m c cc nL s args lw_all RX0) (hw : gH D ct shX ad s σ H locs) (hsz : ls.size = nL) (hrm : (rest.map fun v => v.category).sum ≤ 8) (hR : rm_x_banOf.frames + 1 ≤ R.frames ∧ 8 + (5 + 11) + rm_x_banOf.locals ≤ R.locals) (hdg : decode cc pc = .ok (.invokevirtual 238, 3)) (hf : x_banOf σ x1 x2 x3 Qp) (kk : ∀ (r : Int32), Qp r → W p l e R s m args below meth c H locs 0 0 Z (F0 m (pc + 3) ls (.int r :: rest))) : W p l e R s m args below meth c H locs 0 0 Z (F0 m pc ls (.int x3 :: .int x2 :: .int x1 :: .ref (ad 0) :: rest)) :=
  g_callVR (As := [.int x1, .int x2, .int x3]) (rest := rest) C hw rfl rfl (met_x_banOf l D ct ad hw.2.1 σ x1 x2 x3 Qp hf) (cwV 3 C.2.2.2.2 (lw_V q403 q405 qs13 q200 q406) rfl rfl rfl (by decide +kernel) hR) rfl hsz rfl hrm ⟨Nat.zero_le _, Nat.zero_le _⟩ hdg kk
def x_four_p3 (x1 : Int32) (Q : Unit → St → Prop) (K3 : St → Int32 → Prop) (σ : St) (x2 : Int32) : Prop :=
  ((x2 < 0 → Q () σ) ∧ (¬ x2 < 0 → (vp_in (σ.1 14) 400 ∧ (∀ s19 : St, s19 = s_A σ 13 (Int32.toNatClampNeg (σ.1 14)) (Int8.toInt32 (Int32.toInt8 (Int8.toInt32 (Int32.toInt8 (x1 >>> (x2 &&& 31)))))) → (∀ s27 : St, s27 = s_I s19 14 ((s19.1 14) + 1) → K3 s27 (x2 + (-8)))))))
def x_four (σ : St) (x1 : Int32) (Q : Unit → St → Prop) : Prop :=
  (Lp2 (x_four_p3 x1 Q) σ 24)
abbrev rm_x_four : Room := { frames := 0, cells := 0, slots := 0, locals := 0 }
set_option maxHeartbeats 4000000 in
theorem met_x_four (l : Launch) (D : va_G) (ct : Ct) (ad : Nat → Nat) (hJ : gJ shX ad ct) (σ : St) (x1 : Int32) (Q : Unit → St → Prop) (hf : x_four σ x1 Q) : Met l yX0_four (ws_ yX0_four cX0_four 3 (none)) rm_x_four (va_Pc [.ref (ad 0), .int x1] (gP D ct shX ad σ)) (gQ rvV D ct shX ad Q) 0 0 (gA shX ad) := by
  refine g_metV hJ (by decide) (Nat.le_of_ble_eq_true rfl) ?_
  intro p e s m args below meth c QQ ls C hw hl hret
  replace hl : lv_has ls 3 [(0, .ref (ad 0)), (1, .int x1)] := hl
  have B3 : ∀ (x1 : Int32) (K3 : St → Int32 → Prop) (_ : ∀ (σ : St) (H : Heap) (locs : List Loc) (x2 : Int32) (ls : Array Slot), K3 σ x2 → gH D ct shX ad s σ H locs → lv_has ls 3 [(0, .ref (ad 0)), (1, .int x1), (2, .int x2)] → W p l e rm_x_four s m args below meth c H locs 0 0 QQ (F0 m 3 ls [])) (σ : St) (H : Heap) (locs : List Loc) (x2 : Int32) (ls : Array Slot), x_four_p3 x1 Q K3 σ x2 → gH D ct shX ad s σ H locs → lv_has ls 3 [(0, .ref (ad 0)), (1, .int x1), (2, .int x2)] → W p l e rm_x_four s m args below meth c H locs 0 0 QQ (F0 m 3 ls []) := by
    intro x1 K3 hK3 σ H locs x2 ls hf hw hl
    unfold x_four_p3 at hf
    refine lv_iload_n C.1 C.2.1 dX0_four_3 rfl (lv_at hl 2 rfl) ?_
    refine lv_if_lt (tgt := 36) C.1 C.2.1 dX0_four_4 (by decide) (fun h4 => ?_) (fun h4 => ?_)
    · replace hf := hf.1 h4
      exact hret _ _ _ _ _ _ hf hw dX0_four_36
    · replace hf := hf.2 h4
      refine lv_aload_n C.1 C.2.1 dX0_four_7 rfl (lv_at hl 0 rfl) ?_
      refine xg_tape C hw dX0_four_8 ?_
      refine lv_aload_n C.1 C.2.1 dX0_four_11 rfl (lv_at hl 0 rfl) ?_
      refine xg_taped C hw dX0_four_12 ?_
      refine lv_iload_n C.1 C.2.1 dX0_four_15 rfl (lv_at hl 1 rfl) ?_
      refine lv_iload_n C.1 C.2.1 dX0_four_16 rfl (lv_at hl 2 rfl) ?_
      refine lv_ishr C.1 C.2.1 dX0_four_17 ?_
      refine lv_i2b C.1 C.2.1 dX0_four_18 rfl ?_
      obtain ⟨b19, hf⟩ := hf
      refine g_bast C shX_sep hw 13 rfl b19 dX0_four_19 (fun s19 H locs e19 hw => ?_)
      replace hf := hf s19 e19
      refine lv_aload_n C.1 C.2.1 dX0_four_20 rfl (lv_at hl 0 rfl) ?_
      refine lv_dup C.1 C.2.1 dX0_four_21 rfl ?_
      refine xg_taped C hw dX0_four_22 ?_
      refine lv_iconst (v := 1) C.1 C.2.1 dX0_four_25 rfl ?_
      refine lv_iadd C.1 C.2.1 dX0_four_26 ?_
      refine xp_taped C hw dX0_four_27 (fun s27 H locs e27 hw => ?_)
      replace hf := hf s27 e27
      refine lv_iinc (v := (x2 + (-8))) (lv' := [(2, .int (x2 + (-8))), (0, .ref (ad 0)), (1, .int x1)]) C.1 C.2.1 dX0_four_30 hl (k := 2) rfl rfl (Nat.le_of_ble_eq_true rfl) rfl (fun ls hl => ?_)
      refine lv_goto (tgt := 3) C.1 C.2.1 dX0_four_33 (by decide) ?_
      exact hK3 _ _ _ _ _ hf hw (lv_sub hl [1, 2, 0] rfl)
  have P3 : ∀ (x1 : Int32) (n : Nat) (σ : St) (x2 : Int32) (ls : Array Slot) (H : Heap) (locs : List Loc), LL2 (x_four_p3 x1 Q) n σ x2 → gH D ct shX ad s σ H locs → lv_has ls 3 [(0, .ref (ad 0)), (1, .int x1), (2, .int x2)] → W p l e rm_x_four s m args below meth c H locs 0 0 QQ (F0 m 3 ls []) := by
    intro x1 n
    induction n with
    | zero => intro σ x2 ls H locs hf; exact False.elim hf
    | succ n ih => intro σ x2 ls H locs hf hw hl; exact B3 x1 (LL2 _ n) (fun σ H locs x2 ls hf hw hl => ih σ x2 ls H locs hf hw hl) σ H locs x2 ls hf hw hl
  unfold x_four at hf
  obtain ⟨H, hH⟩ : ∃ q, q = s.heap := ⟨_, rfl⟩
  obtain ⟨locs, hL⟩ : ∃ q : List Loc, q = [] := ⟨_, rfl⟩
  rw [← hH, ← hL] at hw ⊢
  refine lv_bipush (v := 24) C.1 C.2.1 dX0_four_0 rfl ?_
  refine lv_istore_n (lv' := [(2, .int 24), (0, .ref (ad 0)), (1, .int x1)]) C.1 C.2.1 dX0_four_2 rfl hl (Nat.le_of_ble_eq_true rfl) rfl (fun ls hl => ?_)
  obtain ⟨n, hf⟩ := hf
  exact P3 _ n _ _ _ _ _ hf hw (lv_sub hl [1, 2, 0] rfl)
theorem kx_four {p : Program} {l : Launch} {e : Env} {R : Room} {s : State} {m : MethodId} {args : Array Value} {below : List Frame} {meth : Method} {c : Code} {H : Heap} {locs : List Loc} {Z : State → Prop} {cc : ByteArray} {nL pc : Nat} {ls : Array Slot} {rest : List Value} {D : va_G} {ct : Ct} {ad : Nat → Nat} {σ : St} {x1 : Int32} {Qp : Unit → St → Prop} (C : CallFix p m c cc nL s args lw_all RX0) (hw : gH D ct shX ad s σ H locs) (hsz : ls.size = nL) (hrm : (rest.map fun v => v.category).sum ≤ 8) (hR : rm_x_four.frames + 1 ≤ R.frames ∧ 8 + (3 + 11) + rm_x_four.locals ≤ R.locals) (hdg : decode cc pc = .ok (.invokevirtual 254, 3)) (hf : x_four σ x1 Qp) (kk : ∀ (r : Unit) (σ1 : St) (H1 : Heap) (locs1 : List Loc), Qp r σ1 → gH D ct shX ad s σ1 H1 locs1 → W p l e R s m args below meth c H1 locs1 0 0 Z (F0 m (pc + 3) ls (rest))) : W p l e R s m args below meth c H locs 0 0 Z (F0 m pc ls (.int x1 :: .ref (ad 0) :: rest)) :=
  g_callV (As := [.int x1]) (rest := rest) C hw rfl rfl (met_x_four l D ct ad hw.2.1 σ x1 Qp hf) (cwV 1 C.2.2.2.2 (lw_V q616 q618 qs14 q200 q619) rfl rfl rfl (by decide +kernel) hR) rfl hsz rfl hrm ⟨Nat.zero_le _, Nat.zero_le _⟩ hdg kk
def x_end (σ : St) (x1 : Int32) (Q : Int32 → St → Prop) : Prop :=
  ((x1 < 0 → Q (-1) σ) ∧ (¬ x1 < 0 → ((x1 ≤ (σ.1 14) → (∀ s16 : St, s16 = s_I σ 14 x1 → Q x1 s16)) ∧ (¬ x1 ≤ (σ.1 14) → Q (-1) σ))))
abbrev rm_x_end : Room := { frames := 0, cells := 0, slots := 0, locals := 0 }
set_option maxHeartbeats 4000000 in
theorem met_x_end (l : Launch) (D : va_G) (ct : Ct) (ad : Nat → Nat) (hJ : gJ shX ad ct) (σ : St) (x1 : Int32) (Q : Int32 → St → Prop) (hf : x_end σ x1 Q) : Met l yX0_end (ws_ yX0_end cX0_end 2 (some .int)) rm_x_end (va_Pc [.ref (ad 0), .int x1] (gP D ct shX ad σ)) (gQ rvI D ct shX ad Q) 0 0 (gA shX ad) := by
  refine g_metI hJ (by decide) (Nat.le_of_ble_eq_true rfl) ?_
  intro p e s m args below meth c QQ ls C hw hl hret
  replace hl : lv_has ls 2 [(0, .ref (ad 0)), (1, .int x1)] := hl
  unfold x_end at hf
  obtain ⟨H, hH⟩ : ∃ q, q = s.heap := ⟨_, rfl⟩
  obtain ⟨locs, hL⟩ : ∃ q : List Loc, q = [] := ⟨_, rfl⟩
  rw [← hH, ← hL] at hw ⊢
  refine lv_iload_n C.1 C.2.1 dX0_end_0 rfl (lv_at hl 1 rfl) ?_
  refine lv_if_lt (tgt := 12) C.1 C.2.1 dX0_end_1 (by decide) (fun h1 => ?_) (fun h1 => ?_)
  · replace hf := hf.1 h1
    refine lv_iconst (v := (-1)) C.1 C.2.1 dX0_end_12 rfl ?_
    exact hret _ _ _ _ _ _ hf hw dX0_end_13
  · replace hf := hf.2 h1
    refine lv_iload_n C.1 C.2.1 dX0_end_4 rfl (lv_at hl 1 rfl) ?_
    refine lv_aload_n C.1 C.2.1 dX0_end_5 rfl (lv_at hl 0 rfl) ?_
    refine xg_taped C hw dX0_end_6 ?_
    refine lv_icmp_le (tgt := 14) C.1 C.2.1 dX0_end_9 (by decide) (fun h9 => ?_) (fun h9 => ?_)
    · replace hf := hf.1 h9
      refine lv_aload_n C.1 C.2.1 dX0_end_14 rfl (lv_at hl 0 rfl) ?_
      refine lv_iload_n C.1 C.2.1 dX0_end_15 rfl (lv_at hl 1 rfl) ?_
      refine xp_taped C hw dX0_end_16 (fun s16 H locs e16 hw => ?_)
      replace hf := hf s16 e16
      refine lv_iload_n C.1 C.2.1 dX0_end_19 rfl (lv_at hl 1 rfl) ?_
      exact hret _ _ _ _ _ _ hf hw dX0_end_20
    · replace hf := hf.2 h9
      refine lv_iconst (v := (-1)) C.1 C.2.1 dX0_end_12 rfl ?_
      exact hret _ _ _ _ _ _ hf hw dX0_end_13
def x_facts (σ : St) (x1 : Int32) (Q : Int32 → Prop) : Prop :=
  ((x1 = 0 → Q (σ.1 15)) ∧ (¬ x1 = 0 → ((x1 = 1 → Q (σ.1 16)) ∧ (¬ x1 = 1 → ((x1 = 2 → Q (σ.1 17)) ∧ (¬ x1 = 2 → ((x1 = 3 → Q (σ.1 18)) ∧ (¬ x1 = 3 → ((x1 = 4 → Q (σ.1 19)) ∧ (¬ x1 = 4 → ((x1 = 5 → Q (σ.1 81)) ∧ (¬ x1 = 5 → Q (-1)))))))))))))
abbrev rm_x_facts : Room := { frames := 0, cells := 0, slots := 0, locals := 0 }
set_option maxHeartbeats 4000000 in
theorem met_x_facts (l : Launch) (D : va_G) (ct : Ct) (ad : Nat → Nat) (hJ : gJ shX ad ct) (σ : St) (x1 : Int32) (Q : Int32 → Prop) (hf : x_facts σ x1 Q) : Met l yX0_facts (ws_ yX0_facts cX0_facts 2 (some .int)) rm_x_facts (va_Pc [.ref (ad 0), .int x1] (gP D ct shX ad σ)) (gR rvI Q) 0 0 (fun _ => False) := by
  refine g_metRI hJ (by decide) (Nat.le_of_ble_eq_true rfl) ?_
  intro p e s m args below meth c QQ ls H C hw hl hret
  replace hl : lv_has ls 2 [(0, .ref (ad 0)), (1, .int x1)] := hl
  unfold x_facts at hf
  refine lv_aload_n C.1 C.2.1 dX0_facts_0 rfl (lv_at hl 0 rfl) ?_
  refine xg_grammar C hw dX0_facts_1 ?_
  refine lv_ifnonnull (tgt := 9) C.1 C.2.1 dX0_facts_4 (by decide) ?_
  refine lv_iload_n C.1 C.2.1 dX0_facts_9 rfl (lv_at hl 1 rfl) ?_
  by_cases h10_0 : x1 = 0
  · replace hf := hf.1 h10_0
    refine lv_tableIn (tgt := 48) C.1 C.2.1 dX0_facts_10 (by rw [h10_0]; decide) (by rw [h10_0]; decide) (by rw [h10_0]; rfl) (by decide) ?_
    refine lv_aload_n C.1 C.2.1 dX0_facts_48 rfl (lv_at hl 0 rfl) ?_
    refine xg_empties C hw dX0_facts_49 ?_
    exact hret _ _ _ hf dX0_facts_52
  · replace hf := hf.2 h10_0
    by_cases h10_1 : x1 = 1
    · replace hf := hf.1 h10_1
      refine lv_tableIn (tgt := 53) C.1 C.2.1 dX0_facts_10 (by rw [h10_1]; decide) (by rw [h10_1]; decide) (by rw [h10_1]; rfl) (by decide) ?_
      refine lv_aload_n C.1 C.2.1 dX0_facts_53 rfl (lv_at hl 0 rfl) ?_
      refine xg_ending C hw dX0_facts_54 ?_
      exact hret _ _ _ hf dX0_facts_57
    · replace hf := hf.2 h10_1
      by_cases h10_2 : x1 = 2
      · replace hf := hf.1 h10_2
        refine lv_tableIn (tgt := 58) C.1 C.2.1 dX0_facts_10 (by rw [h10_2]; decide) (by rw [h10_2]; decide) (by rw [h10_2]; rfl) (by decide) ?_
        refine lv_aload_n C.1 C.2.1 dX0_facts_58 rfl (lv_at hl 0 rfl) ?_
        refine xg_reached C hw dX0_facts_59 ?_
        exact hret _ _ _ hf dX0_facts_62
      · replace hf := hf.2 h10_2
        by_cases h10_3 : x1 = 3
        · replace hf := hf.1 h10_3
          refine lv_tableIn (tgt := 63) C.1 C.2.1 dX0_facts_10 (by rw [h10_3]; decide) (by rw [h10_3]; decide) (by rw [h10_3]; rfl) (by decide) ?_
          refine lv_aload_n C.1 C.2.1 dX0_facts_63 rfl (lv_at hl 0 rfl) ?_
          refine xg_loops C hw dX0_facts_64 ?_
          exact hret _ _ _ hf dX0_facts_67
        · replace hf := hf.2 h10_3
          by_cases h10_4 : x1 = 4
          · replace hf := hf.1 h10_4
            refine lv_tableIn (tgt := 68) C.1 C.2.1 dX0_facts_10 (by rw [h10_4]; decide) (by rw [h10_4]; decide) (by rw [h10_4]; rfl) (by decide) ?_
            refine lv_aload_n C.1 C.2.1 dX0_facts_68 rfl (lv_at hl 0 rfl) ?_
            refine xg_recurs C hw dX0_facts_69 ?_
            exact hret _ _ _ hf dX0_facts_72
          · replace hf := hf.2 h10_4
            by_cases h10_5 : x1 = 5
            · replace hf := hf.1 h10_5
              refine lv_tableIn (tgt := 73) C.1 C.2.1 dX0_facts_10 (by rw [h10_5]; decide) (by rw [h10_5]; decide) (by rw [h10_5]; rfl) (by decide) ?_
              refine lv_aload_n C.1 C.2.1 dX0_facts_73 rfl (lv_at hl 0 rfl) ?_
              refine xg_grammar C hw dX0_facts_74 ?_
              refine xn_lefts C hw dX0_facts_77 ?_
              exact hret _ _ _ hf dX0_facts_80
            · replace hf := hf.2 h10_5
              refine lv_tableOut (tgt := 81) C.1 C.2.1 dX0_facts_10 (tb_out_0_5 h10_0 h10_1 h10_2 h10_3 h10_4 h10_5) (by decide) ?_
              refine lv_iconst (v := (-1)) C.1 C.2.1 dX0_facts_81 rfl ?_
              exact hret _ _ _ hf dX0_facts_82
def fx_facts (σ : St) (x1 : Int32) : Int32 :=
  (if x1 = 0 then (σ.1 15) else (if x1 = 1 then (σ.1 16) else (if x1 = 2 then (σ.1 17) else (if x1 = 3 then (σ.1 18) else (if x1 = 4 then (σ.1 19) else (if x1 = 5 then (σ.1 81) else (-1)))))))
theorem x_facts_f {Q : Int32 → Prop} {σ : St} {x1 : Int32} (h : Q (fx_facts σ x1)) : x_facts σ x1 Q := by
  unfold fx_facts at h
  unfold x_facts
  refine ⟨fun c => ?_, fun c => ?_⟩
  · rw [if_pos c] at h
    exact h
  · rw [if_neg c] at h
    refine ⟨fun c => ?_, fun c => ?_⟩
    · rw [if_pos c] at h
      exact h
    · rw [if_neg c] at h
      refine ⟨fun c => ?_, fun c => ?_⟩
      · rw [if_pos c] at h
        exact h
      · rw [if_neg c] at h
        refine ⟨fun c => ?_, fun c => ?_⟩
        · rw [if_pos c] at h
          exact h
        · rw [if_neg c] at h
          refine ⟨fun c => ?_, fun c => ?_⟩
          · rw [if_pos c] at h
            exact h
          · rw [if_neg c] at h
            refine ⟨fun c => ?_, fun c => ?_⟩
            · rw [if_pos c] at h
              exact h
            · rw [if_neg c] at h
              exact h
def x_pointOf (x0 : Int32) (x1 : Int32) (Q : Int64 → Prop) : Prop :=
  Q (1 <<< (Int32.toInt64 ((5 * x0) + x1) &&& 63))
abbrev rm_x_pointOf : Room := { frames := 0, cells := 0, slots := 0, locals := 0 }
set_option maxHeartbeats 4000000 in
theorem met_x_pointOf (l : Launch) (x0 : Int32) (x1 : Int32) (Q : Int64 → Prop) (hf : x_pointOf x0 x1 Q) : Met l yX0_pointOf (ws_ yX0_pointOf cX0_pointOf 2 (some .long)) rm_x_pointOf (va_Pc [.int x0, .int x1] (fun _ => True)) (gR rvL Q) 0 0 (fun _ => False) := by
  refine g_metSL (by decide) (Nat.le_of_ble_eq_true rfl) ?_
  intro p e s m args below meth c QQ ls H C hl hret
  replace hl : lv_has ls 2 [(0, .int x0), (1, .int x1)] := hl
  unfold x_pointOf at hf
  refine lv_lconst (v := 1) C.1 C.2.1 dX0_pointOf_0 rfl ?_
  refine lv_iconst (v := 5) C.1 C.2.1 dX0_pointOf_1 rfl ?_
  refine lv_iload_n C.1 C.2.1 dX0_pointOf_2 rfl (lv_at hl 0 rfl) ?_
  refine lv_imul C.1 C.2.1 dX0_pointOf_3 ?_
  refine lv_iload_n C.1 C.2.1 dX0_pointOf_4 rfl (lv_at hl 1 rfl) ?_
  refine lv_iadd C.1 C.2.1 dX0_pointOf_5 ?_
  refine lv_lshl C.1 C.2.1 dX0_pointOf_6 rfl ?_
  exact hret _ _ _ hf dX0_pointOf_7
def fx_pointOf (x0 : Int32) (x1 : Int32) : Int64 :=
  (1 <<< (Int32.toInt64 ((5 * x0) + x1) &&& 63))
theorem x_pointOf_f {Q : Int64 → Prop} {x0 : Int32} {x1 : Int32} (h : Q (fx_pointOf x0 x1)) : x_pointOf x0 x1 Q := by
  unfold fx_pointOf at h
  unfold x_pointOf
  exact h
theorem kx_pointOf {p : Program} {l : Launch} {e : Env} {R : Room} {s : State} {m : MethodId} {args : Array Value} {below : List Frame} {meth : Method} {c : Code} {H : Heap} {locs : List Loc} {Z : State → Prop} {cc : ByteArray} {nL pc : Nat} {ls : Array Slot} {rest : List Value} {x0 : Int32} {x1 : Int32} (C : CallFix p m c cc nL s args lw_all RX0) (hsz : ls.size = nL) (hrm : (rest.map fun v => v.category).sum ≤ 8) (hR : rm_x_pointOf.frames + 1 ≤ R.frames ∧ 8 + (2 + 11) + rm_x_pointOf.locals ≤ R.locals) (hdg : decode cc pc = .ok (.invokestatic 381, 3)) (kk : W p l e R s m args below meth c H locs 0 0 Z (F0 m (pc + 3) ls (.long (fx_pointOf x0 x1) :: rest))) : W p l e R s m args below meth c H locs 0 0 Z (F0 m pc ls (.int x1 :: .int x0 :: rest)) :=
  g_callSRf (As := [.int x0, .int x1]) (rest := rest) C (met_x_pointOf l x0 x1 (fun r => r = fx_pointOf x0 x1) (x_pointOf_f rfl)) (va_cwS 2 C.2.2.2.2 (lw_S q813 q814 q200 q815) rfl rfl rfl (by decide +kernel) hR) rfl hsz rfl hrm ⟨Nat.zero_le _, Nat.zero_le _⟩ hdg kk
def x_numberOf_p54 (σ : St) (Q : Int32 → St → Prop) : Prop :=
  (∀ s61 : St, s61 = s_I σ 25 ((σ.1 25) + 1) → Q ((s61.1 25) - 1) s61)
def x_numberOf_p35 (σ : St) (x1 : Int64) (Q : Int32 → St → Prop) : Prop :=
  ((90 < (σ.1 25) → (x_numberOf_p54 σ Q)) ∧ (¬ 90 < (σ.1 25) → (vp_in (σ.1 25) 91 ∧ (∀ s53 : St, s53 = s_L σ 23 (Int32.toNatClampNeg (σ.1 25)) x1 → (x_numberOf_p54 s53 Q)))))
def x_numberOf_p2 (σ : St) (x1 : Int64) (Q : Int32 → St → Prop) (K2 : Int32 → Prop) (x3 : Int32) : Prop :=
  (((σ.1 25) ≤ x3 → (x_numberOf_p35 σ x1 Q)) ∧ (¬ (σ.1 25) ≤ x3 → ((90 < x3 → (x_numberOf_p35 σ x1 Q)) ∧ (¬ 90 < x3 → (vp_in x3 91 ∧ (((gL σ 23 x3) = x1 → Q x3 σ) ∧ (¬ (gL σ 23 x3) = x1 → K2 (x3 + 1))))))))
def x_numberOf (σ : St) (x1 : Int64) (Q : Int32 → St → Prop) : Prop :=
  (Lp1 (x_numberOf_p2 σ x1 Q) 0)
abbrev rm_x_numberOf : Room := { frames := 0, cells := 0, slots := 0, locals := 0 }
set_option maxHeartbeats 4000000 in
theorem met_x_numberOf (l : Launch) (D : va_G) (ct : Ct) (ad : Nat → Nat) (hJ : gJ shX ad ct) (σ : St) (x1 : Int64) (Q : Int32 → St → Prop) (hf : x_numberOf σ x1 Q) : Met l yX0_numberOf (ws_ yX0_numberOf cX0_numberOf 4 (some .int)) rm_x_numberOf (va_Pc [.ref (ad 0), .long x1] (gP D ct shX ad σ)) (gQ rvI D ct shX ad Q) 0 0 (gA shX ad) := by
  refine g_metI hJ (by decide) (Nat.le_of_ble_eq_true rfl) ?_
  intro p e s m args below meth c QQ ls C hw hl hret
  replace hl : lv_has ls 4 [(0, .ref (ad 0)), (1, .long x1)] := hl
  have J54 : ∀ (σ : St) (H : Heap) (locs : List Loc) (ls : Array Slot), x_numberOf_p54 σ Q → gH D ct shX ad s σ H locs → lv_has ls 4 [(0, .ref (ad 0))] → W p l e rm_x_numberOf s m args below meth c H locs 0 0 QQ (F0 m 54 ls []) := by
    intro σ H locs ls hf hw hl
    unfold x_numberOf_p54 at hf
    refine lv_aload_n C.1 C.2.1 dX0_numberOf_54 rfl (lv_at hl 0 rfl) ?_
    refine lv_dup C.1 C.2.1 dX0_numberOf_55 rfl ?_
    refine xg_stateMany C hw dX0_numberOf_56 ?_
    refine lv_iconst (v := 1) C.1 C.2.1 dX0_numberOf_59 rfl ?_
    refine lv_iadd C.1 C.2.1 dX0_numberOf_60 ?_
    refine xp_stateMany C hw dX0_numberOf_61 (fun s61 H locs e61 hw => ?_)
    replace hf := hf s61 e61
    refine lv_aload_n C.1 C.2.1 dX0_numberOf_64 rfl (lv_at hl 0 rfl) ?_
    refine xg_stateMany C hw dX0_numberOf_65 ?_
    refine lv_iconst (v := 1) C.1 C.2.1 dX0_numberOf_68 rfl ?_
    refine lv_isub C.1 C.2.1 dX0_numberOf_69 ?_
    exact hret _ _ _ _ _ _ hf hw dX0_numberOf_70
  have J35 : ∀ (σ : St) (H : Heap) (locs : List Loc) (x1 : Int64) (ls : Array Slot), x_numberOf_p35 σ x1 Q → gH D ct shX ad s σ H locs → lv_has ls 4 [(0, .ref (ad 0)), (1, .long x1)] → W p l e rm_x_numberOf s m args below meth c H locs 0 0 QQ (F0 m 35 ls []) := by
    intro σ H locs x1 ls hf hw hl
    unfold x_numberOf_p35 at hf
    refine lv_aload_n C.1 C.2.1 dX0_numberOf_35 rfl (lv_at hl 0 rfl) ?_
    refine xg_stateMany C hw dX0_numberOf_36 ?_
    refine lv_bipush (v := 90) C.1 C.2.1 dX0_numberOf_39 rfl ?_
    refine lv_icmp_gt (tgt := 54) C.1 C.2.1 dX0_numberOf_41 (by decide) (fun h41 => ?_) (fun h41 => ?_)
    · replace hf := hf.1 h41
      exact J54 _ _ _ _ hf hw (lv_sub hl [0] rfl)
    · replace hf := hf.2 h41
      refine lv_aload_n C.1 C.2.1 dX0_numberOf_44 rfl (lv_at hl 0 rfl) ?_
      refine xg_points C hw dX0_numberOf_45 ?_
      refine lv_aload_n C.1 C.2.1 dX0_numberOf_48 rfl (lv_at hl 0 rfl) ?_
      refine xg_stateMany C hw dX0_numberOf_49 ?_
      refine lv_lload_n C.1 C.2.1 dX0_numberOf_52 rfl (lv_at hl 1 rfl) ?_
      obtain ⟨b53, hf⟩ := hf
      refine g_last C shX_sep hw 23 rfl b53 dX0_numberOf_53 (fun s53 H locs e53 hw => ?_)
      replace hf := hf s53 e53
      exact J54 _ _ _ _ hf hw (lv_sub hl [0] rfl)
  have B2 : ∀ (σ : St) (H : Heap) (locs : List Loc) (x1 : Int64) (K2 : Int32 → Prop) (_ : ∀ (x3 : Int32) (ls : Array Slot), K2 x3 → lv_has ls 4 [(0, .ref (ad 0)), (1, .long x1), (3, .int x3)] → W p l e rm_x_numberOf s m args below meth c H locs 0 0 QQ (F0 m 2 ls [])) (x3 : Int32) (ls : Array Slot), x_numberOf_p2 σ x1 Q K2 x3 → gH D ct shX ad s σ H locs → lv_has ls 4 [(0, .ref (ad 0)), (1, .long x1), (3, .int x3)] → W p l e rm_x_numberOf s m args below meth c H locs 0 0 QQ (F0 m 2 ls []) := by
    intro σ H locs x1 K2 hK2 x3 ls hf hw hl
    unfold x_numberOf_p2 at hf
    refine lv_iload_n C.1 C.2.1 dX0_numberOf_2 rfl (lv_at hl 2 rfl) ?_
    refine lv_aload_n C.1 C.2.1 dX0_numberOf_3 rfl (lv_at hl 0 rfl) ?_
    refine xg_stateMany C hw dX0_numberOf_4 ?_
    refine lv_icmp_ge (tgt := 35) C.1 C.2.1 dX0_numberOf_7 (by decide) (fun h7 => ?_) (fun h7 => ?_)
    · replace hf := hf.1 h7
      exact J35 _ _ _ _ _ hf hw (lv_sub hl [0, 1] rfl)
    · replace hf := hf.2 h7
      refine lv_iload_n C.1 C.2.1 dX0_numberOf_10 rfl (lv_at hl 2 rfl) ?_
      refine lv_bipush (v := 90) C.1 C.2.1 dX0_numberOf_11 rfl ?_
      refine lv_icmp_gt (tgt := 35) C.1 C.2.1 dX0_numberOf_13 (by decide) (fun h13 => ?_) (fun h13 => ?_)
      · replace hf := hf.1 h13
        exact J35 _ _ _ _ _ hf hw (lv_sub hl [0, 1] rfl)
      · replace hf := hf.2 h13
        refine lv_aload_n C.1 C.2.1 dX0_numberOf_16 rfl (lv_at hl 0 rfl) ?_
        refine xg_points C hw dX0_numberOf_17 ?_
        refine lv_iload_n C.1 C.2.1 dX0_numberOf_20 rfl (lv_at hl 2 rfl) ?_
        obtain ⟨b21, hf⟩ := hf
        refine g_lald C hw 23 rfl b21 dX0_numberOf_21 ?_
        refine lv_lload_n C.1 C.2.1 dX0_numberOf_22 rfl (lv_at hl 1 rfl) ?_
        refine W.lcmp C.1 C.2.1 dX0_numberOf_23 ?_
        refine lv_if_ne (tgt := 29) C.1 C.2.1 dX0_numberOf_24 (by decide) (fun h24 => ?_) (fun h24 => ?_)
        · replace hf := hf.2 (fun q => h24 ((lg_cmp_eq _ _).mpr q))
          refine lv_iinc (v := (x3 + 1)) (lv' := [(3, .int (x3 + 1)), (0, .ref (ad 0)), (1, .long x1)]) C.1 C.2.1 dX0_numberOf_29 hl (k := 2) rfl rfl (Nat.le_of_ble_eq_true rfl) rfl (fun ls hl => ?_)
          refine lv_goto (tgt := 2) C.1 C.2.1 dX0_numberOf_32 (by decide) ?_
          exact hK2 _ _ hf (lv_sub hl [1, 2, 0] rfl)
        · replace hf := hf.1 ((lg_cmp_eq _ _).mp h24)
          refine lv_iload_n C.1 C.2.1 dX0_numberOf_27 rfl (lv_at hl 2 rfl) ?_
          exact hret _ _ _ _ _ _ hf hw dX0_numberOf_28
  have P2 : ∀ (σ : St) (H : Heap) (locs : List Loc) (x1 : Int64) (n : Nat) (x3 : Int32) (ls : Array Slot), LL1 (x_numberOf_p2 σ x1 Q) n x3 → gH D ct shX ad s σ H locs → lv_has ls 4 [(0, .ref (ad 0)), (1, .long x1), (3, .int x3)] → W p l e rm_x_numberOf s m args below meth c H locs 0 0 QQ (F0 m 2 ls []) := by
    intro σ H locs x1 n
    induction n with
    | zero => intro x3 ls hf; exact False.elim hf
    | succ n ih => intro x3 ls hf hw hl; exact B2 σ H locs x1 (LL1 _ n) (fun x3 ls hf hl => ih x3 ls hf hw hl) x3 ls hf hw hl
  unfold x_numberOf at hf
  obtain ⟨H, hH⟩ : ∃ q, q = s.heap := ⟨_, rfl⟩
  obtain ⟨locs, hL⟩ : ∃ q : List Loc, q = [] := ⟨_, rfl⟩
  rw [← hH, ← hL] at hw ⊢
  refine lv_iconst (v := 0) C.1 C.2.1 dX0_numberOf_0 rfl ?_
  refine lv_istore_n (lv' := [(3, .int 0), (0, .ref (ad 0)), (1, .long x1)]) C.1 C.2.1 dX0_numberOf_1 rfl hl (Nat.le_of_ble_eq_true rfl) rfl (fun ls hl => ?_)
  obtain ⟨n, hf⟩ := hf
  exact P2 _ _ _ _ n _ _ hf hw (lv_sub hl [1, 2, 0] rfl)
theorem kx_numberOf {p : Program} {l : Launch} {e : Env} {R : Room} {s : State} {m : MethodId} {args : Array Value} {below : List Frame} {meth : Method} {c : Code} {H : Heap} {locs : List Loc} {Z : State → Prop} {cc : ByteArray} {nL pc : Nat} {ls : Array Slot} {rest : List Value} {D : va_G} {ct : Ct} {ad : Nat → Nat} {σ : St} {x1 : Int64} {Qp : Int32 → St → Prop} (C : CallFix p m c cc nL s args lw_all RX0) (hw : gH D ct shX ad s σ H locs) (hsz : ls.size = nL) (hrm : (rest.map fun v => v.category).sum ≤ 8) (hR : rm_x_numberOf.frames + 1 ≤ R.frames ∧ 8 + (4 + 11) + rm_x_numberOf.locals ≤ R.locals) (hdg : decode cc pc = .ok (.invokevirtual 402, 3)) (hf : x_numberOf σ x1 Qp) (kk : ∀ (r : Int32) (σ1 : St) (H1 : Heap) (locs1 : List Loc), Qp r σ1 → gH D ct shX ad s σ1 H1 locs1 → W p l e R s m args below meth c H1 locs1 0 0 Z (F0 m (pc + 3) ls (.int r :: rest))) : W p l e R s m args below meth c H locs 0 0 Z (F0 m pc ls (.long x1 :: .ref (ad 0) :: rest)) :=
  g_callV (As := [.long x1]) (rest := rest) C hw rfl rfl (met_x_numberOf l D ct ad hw.2.1 σ x1 Qp hf) (cwV 1 C.2.2.2.2 (lw_V q825 q827 qs41 q200 q828) rfl rfl rfl (by decide +kernel) hR) rfl hsz rfl hrm ⟨Nat.zero_le _, Nat.zero_le _⟩ hdg kk
def x_symbolOf (x0 : Int32) (Q : Int32 → Prop) : Prop :=
  ((26 ≤ x0 → Q (x0 - 26)) ∧ (¬ 26 ≤ x0 → Q (x0 + 26)))
abbrev rm_x_symbolOf : Room := { frames := 0, cells := 0, slots := 0, locals := 0 }
set_option maxHeartbeats 4000000 in
theorem met_x_symbolOf (l : Launch) (x0 : Int32) (Q : Int32 → Prop) (hf : x_symbolOf x0 Q) : Met l yX0_symbolOf (ws_ yX0_symbolOf cX0_symbolOf 1 (some .int)) rm_x_symbolOf (va_Pc [.int x0] (fun _ => True)) (gR rvI Q) 0 0 (fun _ => False) := by
  refine g_metSI (by decide) (Nat.le_of_ble_eq_true rfl) ?_
  intro p e s m args below meth c QQ ls H C hl hret
  replace hl : lv_has ls 1 [(0, .int x0)] := hl
  unfold x_symbolOf at hf
  refine lv_iload_n C.1 C.2.1 dX0_symbolOf_0 rfl (lv_at hl 0 rfl) ?_
  refine lv_bipush (v := 26) C.1 C.2.1 dX0_symbolOf_1 rfl ?_
  refine lv_icmp_ge (tgt := 13) C.1 C.2.1 dX0_symbolOf_3 (by decide) (fun h3 => ?_) (fun h3 => ?_)
  · replace hf := hf.1 h3
    refine lv_iload_n C.1 C.2.1 dX0_symbolOf_13 rfl (lv_at hl 0 rfl) ?_
    refine lv_bipush (v := 26) C.1 C.2.1 dX0_symbolOf_14 rfl ?_
    refine lv_isub C.1 C.2.1 dX0_symbolOf_16 ?_
    exact hret _ _ _ hf dX0_symbolOf_17
  · replace hf := hf.2 h3
    refine lv_iload_n C.1 C.2.1 dX0_symbolOf_6 rfl (lv_at hl 0 rfl) ?_
    refine lv_bipush (v := 26) C.1 C.2.1 dX0_symbolOf_7 rfl ?_
    refine lv_iadd C.1 C.2.1 dX0_symbolOf_9 ?_
    refine lv_goto (tgt := 17) C.1 C.2.1 dX0_symbolOf_10 (by decide) ?_
    exact hret _ _ _ hf dX0_symbolOf_17
def fx_symbolOf (x0 : Int32) : Int32 :=
  (if 26 ≤ x0 then (x0 - 26) else (x0 + 26))
theorem x_symbolOf_f {Q : Int32 → Prop} {x0 : Int32} (h : Q (fx_symbolOf x0)) : x_symbolOf x0 Q := by
  unfold fx_symbolOf at h
  unfold x_symbolOf
  refine ⟨fun c => ?_, fun c => ?_⟩
  · rw [if_pos c] at h
    exact h
  · rw [if_neg c] at h
    exact h
theorem kx_symbolOf {p : Program} {l : Launch} {e : Env} {R : Room} {s : State} {m : MethodId} {args : Array Value} {below : List Frame} {meth : Method} {c : Code} {H : Heap} {locs : List Loc} {Z : State → Prop} {cc : ByteArray} {nL pc : Nat} {ls : Array Slot} {rest : List Value} {x0 : Int32} (C : CallFix p m c cc nL s args lw_all RX0) (hsz : ls.size = nL) (hrm : (rest.map fun v => v.category).sum ≤ 8) (hR : rm_x_symbolOf.frames + 1 ≤ R.frames ∧ 8 + (1 + 11) + rm_x_symbolOf.locals ≤ R.locals) (hdg : decode cc pc = .ok (.invokestatic 406, 3)) (kk : W p l e R s m args below meth c H locs 0 0 Z (F0 m (pc + 3) ls (.int (fx_symbolOf x0) :: rest))) : W p l e R s m args below meth c H locs 0 0 Z (F0 m pc ls (.int x0 :: rest)) :=
  g_callSRf (As := [.int x0]) (rest := rest) C (met_x_symbolOf l x0 (fun r => r = fx_symbolOf x0) (x_symbolOf_f rfl)) (va_cwS 1 C.2.2.2.2 (lw_S q829 q830 q200 q831) rfl rfl rfl (by decide +kernel) hR) rfl hsz rfl hrm ⟨Nat.zero_le _, Nat.zero_le _⟩ hdg kk
def x_isState (σ : St) (x1 : Int32) (Q : Int32 → Prop) : Prop :=
  ((x1 < 0 → Q 0) ∧ (¬ x1 < 0 → (((σ.1 25) ≤ x1 → Q 0) ∧ (¬ (σ.1 25) ≤ x1 → Q 1))))
abbrev rm_x_isState : Room := { frames := 0, cells := 0, slots := 0, locals := 0 }
set_option maxHeartbeats 4000000 in
theorem met_x_isState (l : Launch) (D : va_G) (ct : Ct) (ad : Nat → Nat) (hJ : gJ shX ad ct) (σ : St) (x1 : Int32) (Q : Int32 → Prop) (hf : x_isState σ x1 Q) : Met l yX0_isState (ws_ yX0_isState cX0_isState 2 (some .boolean)) rm_x_isState (va_Pc [.ref (ad 0), .int x1] (gP D ct shX ad σ)) (gR rvI Q) 0 0 (fun _ => False) := by
  refine g_metRZ hJ (by decide) (Nat.le_of_ble_eq_true rfl) ?_
  intro p e s m args below meth c QQ ls H C hw hl hret
  replace hl : lv_has ls 2 [(0, .ref (ad 0)), (1, .int x1)] := hl
  unfold x_isState at hf
  refine lv_aload_n C.1 C.2.1 dX0_isState_0 rfl (lv_at hl 0 rfl) ?_
  refine xg_grammar C hw dX0_isState_1 ?_
  refine lv_ifnull C.1 C.2.1 dX0_isState_4 ?_
  refine lv_iload_n C.1 C.2.1 dX0_isState_7 rfl (lv_at hl 1 rfl) ?_
  refine lv_if_lt (tgt := 23) C.1 C.2.1 dX0_isState_8 (by decide) (fun h8 => ?_) (fun h8 => ?_)
  · replace hf := hf.1 h8
    refine lv_iconst (v := 0) C.1 C.2.1 dX0_isState_23 rfl ?_
    exact hret _ _ _ hf (Or.inl rfl) dX0_isState_24
  · replace hf := hf.2 h8
    refine lv_iload_n C.1 C.2.1 dX0_isState_11 rfl (lv_at hl 1 rfl) ?_
    refine lv_aload_n C.1 C.2.1 dX0_isState_12 rfl (lv_at hl 0 rfl) ?_
    refine xg_stateMany C hw dX0_isState_13 ?_
    refine lv_icmp_ge (tgt := 23) C.1 C.2.1 dX0_isState_16 (by decide) (fun h16 => ?_) (fun h16 => ?_)
    · replace hf := hf.1 h16
      refine lv_iconst (v := 0) C.1 C.2.1 dX0_isState_23 rfl ?_
      exact hret _ _ _ hf (Or.inl rfl) dX0_isState_24
    · replace hf := hf.2 h16
      refine lv_iconst (v := 1) C.1 C.2.1 dX0_isState_19 rfl ?_
      refine lv_goto (tgt := 24) C.1 C.2.1 dX0_isState_20 (by decide) ?_
      exact hret _ _ _ hf (Or.inr rfl) dX0_isState_24
def fx_isState (σ : St) (x1 : Int32) : Int32 :=
  (if x1 < 0 then 0 else (if (σ.1 25) ≤ x1 then 0 else 1))
theorem fx_isState_z {σ : St} {x1 : Int32} : zB (fx_isState σ x1) := by
  unfold fx_isState
  repeat' split
  all_goals first | exact Or.inl rfl | exact Or.inr rfl
theorem x_isState_f {Q : Int32 → Prop} {σ : St} {x1 : Int32} (h : Q (fx_isState σ x1)) : x_isState σ x1 Q := by
  unfold fx_isState at h
  unfold x_isState
  refine ⟨fun c => ?_, fun c => ?_⟩
  · rw [if_pos c] at h
    exact h
  · rw [if_neg c] at h
    refine ⟨fun c => ?_, fun c => ?_⟩
    · rw [if_pos c] at h
      exact h
    · rw [if_neg c] at h
      exact h
theorem kx_isState {p : Program} {l : Launch} {e : Env} {R : Room} {s : State} {m : MethodId} {args : Array Value} {below : List Frame} {meth : Method} {c : Code} {H : Heap} {locs : List Loc} {Z : State → Prop} {cc : ByteArray} {nL pc : Nat} {ls : Array Slot} {rest : List Value} {D : va_G} {ct : Ct} {ad : Nat → Nat} {σ : St} {x1 : Int32} (C : CallFix p m c cc nL s args lw_all RX0) (hw : gH D ct shX ad s σ H locs) (hsz : ls.size = nL) (hrm : (rest.map fun v => v.category).sum ≤ 8) (hR : rm_x_isState.frames + 1 ≤ R.frames ∧ 8 + (2 + 11) + rm_x_isState.locals ≤ R.locals) (hdg : decode cc pc = .ok (.invokevirtual 413, 3)) (kk : W p l e R s m args below meth c H locs 0 0 Z (F0 m (pc + 3) ls (.int (fx_isState σ x1) :: rest))) : W p l e R s m args below meth c H locs 0 0 Z (F0 m pc ls (.int x1 :: .ref (ad 0) :: rest)) :=
  g_callVRf (As := [.int x1]) (rest := rest) C hw rfl rfl (met_x_isState l D ct ad hw.2.1 σ x1 (fun r => r = fx_isState σ x1) (x_isState_f rfl)) (cwV 1 C.2.2.2.2 (lw_V q879 q881 qs45 q200 q882) rfl rfl rfl (by decide +kernel) hR) rfl hsz rfl hrm ⟨Nat.zero_le _, Nat.zero_le _⟩ hdg kk
def x_states (σ : St) (Q : Int32 → Prop) : Prop :=
  Q (σ.1 25)
abbrev rm_x_states : Room := { frames := 0, cells := 0, slots := 0, locals := 0 }
set_option maxHeartbeats 4000000 in
theorem met_x_states (l : Launch) (D : va_G) (ct : Ct) (ad : Nat → Nat) (hJ : gJ shX ad ct) (σ : St) (Q : Int32 → Prop) (hf : x_states σ Q) : Met l yX0_states (ws_ yX0_states cX0_states 1 (some .int)) rm_x_states (va_Pc [.ref (ad 0)] (gP D ct shX ad σ)) (gR rvI Q) 0 0 (fun _ => False) := by
  refine g_metRI hJ (by decide) (Nat.le_of_ble_eq_true rfl) ?_
  intro p e s m args below meth c QQ ls H C hw hl hret
  replace hl : lv_has ls 1 [(0, .ref (ad 0))] := hl
  unfold x_states at hf
  refine lv_aload_n C.1 C.2.1 dX0_states_0 rfl (lv_at hl 0 rfl) ?_
  refine xg_grammar C hw dX0_states_1 ?_
  refine lv_ifnonnull (tgt := 11) C.1 C.2.1 dX0_states_4 (by decide) ?_
  refine lv_aload_n C.1 C.2.1 dX0_states_11 rfl (lv_at hl 0 rfl) ?_
  refine xg_stateMany C hw dX0_states_12 ?_
  exact hret _ _ _ hf dX0_states_15
def fx_states (σ : St) : Int32 :=
  (σ.1 25)
theorem x_states_f {Q : Int32 → Prop} {σ : St} (h : Q (fx_states σ)) : x_states σ Q := by
  unfold fx_states at h
  unfold x_states
  exact h
def x_changes (σ : St) (Q : Unit → St → Prop) : Prop :=
  (∀ s2 : St, s2 = s_I σ 26 0 → (∀ s7 : St, s7 = s_I s2 27 0 → Q () s7))
abbrev rm_x_changes : Room := { frames := 0, cells := 0, slots := 0, locals := 0 }
set_option maxHeartbeats 4000000 in
theorem met_x_changes (l : Launch) (D : va_G) (ct : Ct) (ad : Nat → Nat) (hJ : gJ shX ad ct) (σ : St) (Q : Unit → St → Prop) (hf : x_changes σ Q) : Met l yX0_changes (ws_ yX0_changes cX0_changes 1 (none)) rm_x_changes (va_Pc [.ref (ad 0)] (gP D ct shX ad σ)) (gQ rvV D ct shX ad Q) 0 0 (gA shX ad) := by
  refine g_metV hJ (by decide) (Nat.le_of_ble_eq_true rfl) ?_
  intro p e s m args below meth c QQ ls C hw hl hret
  replace hl : lv_has ls 1 [(0, .ref (ad 0))] := hl
  unfold x_changes at hf
  obtain ⟨H, hH⟩ : ∃ q, q = s.heap := ⟨_, rfl⟩
  obtain ⟨locs, hL⟩ : ∃ q : List Loc, q = [] := ⟨_, rfl⟩
  rw [← hH, ← hL] at hw ⊢
  refine lv_aload_n C.1 C.2.1 dX0_changes_0 rfl (lv_at hl 0 rfl) ?_
  refine lv_iconst (v := 0) C.1 C.2.1 dX0_changes_1 rfl ?_
  refine xp_isStacked C hw (Or.inl rfl) dX0_changes_2 (fun s2 H locs e2 hw => ?_)
  replace hf := hf s2 e2
  refine lv_aload_n C.1 C.2.1 dX0_changes_5 rfl (lv_at hl 0 rfl) ?_
  refine lv_iconst (v := 0) C.1 C.2.1 dX0_changes_6 rfl ?_
  refine xp_isCharted C hw (Or.inl rfl) dX0_changes_7 (fun s7 H locs e7 hw => ?_)
  replace hf := hf s7 e7
  exact hret _ _ _ _ _ _ hf hw dX0_changes_10
theorem kx_changes {p : Program} {l : Launch} {e : Env} {R : Room} {s : State} {m : MethodId} {args : Array Value} {below : List Frame} {meth : Method} {c : Code} {H : Heap} {locs : List Loc} {Z : State → Prop} {cc : ByteArray} {nL pc : Nat} {ls : Array Slot} {rest : List Value} {D : va_G} {ct : Ct} {ad : Nat → Nat} {σ : St} {Qp : Unit → St → Prop} (C : CallFix p m c cc nL s args lw_all RX0) (hw : gH D ct shX ad s σ H locs) (hsz : ls.size = nL) (hrm : (rest.map fun v => v.category).sum ≤ 8) (hR : rm_x_changes.frames + 1 ≤ R.frames ∧ 8 + (1 + 11) + rm_x_changes.locals ≤ R.locals) (hdg : decode cc pc = .ok (.invokevirtual 445, 3)) (hf : x_changes σ Qp) (kk : ∀ (r : Unit) (σ1 : St) (H1 : Heap) (locs1 : List Loc), Qp r σ1 → gH D ct shX ad s σ1 H1 locs1 → W p l e R s m args below meth c H1 locs1 0 0 Z (F0 m (pc + 3) ls (rest))) : W p l e R s m args below meth c H locs 0 0 Z (F0 m pc ls (.ref (ad 0) :: rest)) :=
  g_callV (As := []) (rest := rest) C hw rfl rfl (met_x_changes l D ct ad hw.2.1 σ Qp hf) (cwV 0 C.2.2.2.2 (lw_V q927 q929 qs50 q200 q930) rfl rfl rfl (by decide +kernel) hR) rfl hsz rfl hrm ⟨Nat.zero_le _, Nat.zero_le _⟩ hdg kk
def x_letter (σ : St) (x1 : Int32) (Q : Int32 → Prop) : Prop :=
  ((x1 < 0 → Q (-1)) ∧ (¬ x1 < 0 → (((σ.1 4) ≤ x1 → Q (-1)) ∧ (¬ (σ.1 4) ≤ x1 → (vp_in x1 12 ∧ Q (gI σ 3 x1))))))
abbrev rm_x_letter : Room := { frames := 0, cells := 0, slots := 0, locals := 0 }
set_option maxHeartbeats 4000000 in
theorem met_x_letter (l : Launch) (D : va_G) (ct : Ct) (ad : Nat → Nat) (hJ : gJ shX ad ct) (σ : St) (x1 : Int32) (Q : Int32 → Prop) (hf : x_letter σ x1 Q) : Met l yX0_letter (ws_ yX0_letter cX0_letter 2 (some .int)) rm_x_letter (va_Pc [.ref (ad 0), .int x1] (gP D ct shX ad σ)) (gR rvI Q) 0 0 (fun _ => False) := by
  refine g_metRI hJ (by decide) (Nat.le_of_ble_eq_true rfl) ?_
  intro p e s m args below meth c QQ ls H C hw hl hret
  replace hl : lv_has ls 2 [(0, .ref (ad 0)), (1, .int x1)] := hl
  unfold x_letter at hf
  refine lv_iload_n C.1 C.2.1 dX0_letter_0 rfl (lv_at hl 1 rfl) ?_
  refine lv_if_lt (tgt := 21) C.1 C.2.1 dX0_letter_1 (by decide) (fun h1 => ?_) (fun h1 => ?_)
  · replace hf := hf.1 h1
    refine lv_iconst (v := (-1)) C.1 C.2.1 dX0_letter_21 rfl ?_
    exact hret _ _ _ hf dX0_letter_22
  · replace hf := hf.2 h1
    refine lv_iload_n C.1 C.2.1 dX0_letter_4 rfl (lv_at hl 1 rfl) ?_
    refine lv_aload_n C.1 C.2.1 dX0_letter_5 rfl (lv_at hl 0 rfl) ?_
    refine xg_textMany C hw dX0_letter_6 ?_
    refine lv_icmp_ge (tgt := 21) C.1 C.2.1 dX0_letter_9 (by decide) (fun h9 => ?_) (fun h9 => ?_)
    · replace hf := hf.1 h9
      refine lv_iconst (v := (-1)) C.1 C.2.1 dX0_letter_21 rfl ?_
      exact hret _ _ _ hf dX0_letter_22
    · replace hf := hf.2 h9
      refine lv_aload_n C.1 C.2.1 dX0_letter_12 rfl (lv_at hl 0 rfl) ?_
      refine xg_text C hw dX0_letter_13 ?_
      refine lv_iload_n C.1 C.2.1 dX0_letter_16 rfl (lv_at hl 1 rfl) ?_
      obtain ⟨b17, hf⟩ := hf
      refine g_iald C hw 3 rfl b17 dX0_letter_17 ?_
      refine lv_goto (tgt := 22) C.1 C.2.1 dX0_letter_18 (by decide) ?_
      exact hret _ _ _ hf dX0_letter_22
def x_gathersGoings_p99 (x1 : Int32) (x2 : Int32) (Q : Unit → St → Prop) (K7 : St → Int32 → Prop) (K32 : St → Int32 → Prop) (K99 : St → Int32 → Prop) (σ : St) (x3 : Int32) : Prop :=
  ((13 ≤ x3 → (∀ s133 : St, s133 = s_I σ 35 ((σ.1 35) + 1) → K32 s133 (x2 + 1))) ∧ (¬ 13 ≤ x3 → (vp_in ((13 * (σ.1 35)) + x3) 60840 ∧ (∀ s119 : St, s119 = s_A σ 31 (Int32.toNatClampNeg ((13 * (σ.1 35)) + x3)) 0 → K99 s119 (x3 + 1)))))
def x_gathersGoings_p32 (x1 : Int32) (Q : Unit → St → Prop) (K7 : St → Int32 → Prop) (K32 : St → Int32 → Prop) (σ : St) (x2 : Int32) : Prop :=
  ((52 ≤ x2 → K7 σ (x1 + 1)) ∧ (¬ 52 ≤ x2 → (vp_in ((52 * x1) + x2) 4732 ∧ (((gI σ 24 ((52 * x1) + x2)) = (-2) → K32 σ (x2 + 1)) ∧ (¬ (gI σ 24 ((52 * x1) + x2)) = (-2) → (vp_in (σ.1 35) 4680 ∧ (∀ s66 : St, s66 = s_A σ 28 (Int32.toNatClampNeg (σ.1 35)) x1 → (vp_in (s66.1 35) 4680 ∧ (∀ s76 : St, s76 = s_A s66 29 (Int32.toNatClampNeg (s66.1 35)) x2 → (vp_in (s76.1 35) 4680 ∧ (∀ s96 : St, s96 = s_A s76 30 (Int32.toNatClampNeg (s76.1 35)) (gI s76 24 ((52 * x1) + x2)) → (Lp2 (x_gathersGoings_p99 x1 x2 Q K7 K32) s96 0))))))))))))
def x_gathersGoings_p29 (σ : St) (x1 : Int32) (Q : Unit → St → Prop) (K7 : St → Int32 → Prop) (v0 : Int32) (v1 : Int32) : Prop :=
  (vp_in v1 90 ∧ (∀ s29 : St, s29 = s_A σ 32 (Int32.toNatClampNeg v1) v0 → (Lp2 (x_gathersGoings_p32 x1 Q K7) s29 0)))
def x_gathersGoings_p7 (Q : Unit → St → Prop) (K7 : St → Int32 → Prop) (σ : St) (x1 : Int32) : Prop :=
  (((σ.1 25) ≤ x1 → Q () σ) ∧ (¬ (σ.1 25) ≤ x1 → ((x1 = 0 → (x_gathersGoings_p29 σ x1 Q K7 1 x1)) ∧ (¬ x1 = 0 → (x_gathersGoings_p29 σ x1 Q K7 0 x1)))))
def x_gathersGoings (σ : St) (Q : Unit → St → Prop) : Prop :=
  (∀ s2 : St, s2 = s_I σ 35 0 → (Lp2 (x_gathersGoings_p7 Q) s2 0))
abbrev rm_x_gathersGoings : Room := { frames := 0, cells := 0, slots := 0, locals := 0 }
set_option maxHeartbeats 4000000 in
theorem met_x_gathersGoings (l : Launch) (D : va_G) (ct : Ct) (ad : Nat → Nat) (hJ : gJ shX ad ct) (σ : St) (Q : Unit → St → Prop) (hf : x_gathersGoings σ Q) : Met l yX0_gathersGoings (ws_ yX0_gathersGoings cX0_gathersGoings 4 (none)) rm_x_gathersGoings (va_Pc [.ref (ad 0)] (gP D ct shX ad σ)) (gQ rvV D ct shX ad Q) 0 0 (gA shX ad) := by
  refine g_metV hJ (by decide) (Nat.le_of_ble_eq_true rfl) ?_
  intro p e s m args below meth c QQ ls C hw hl hret
  replace hl : lv_has ls 4 [(0, .ref (ad 0))] := hl
  have B99 : ∀ (x1 : Int32) (x2 : Int32) (K7 : St → Int32 → Prop) (_ : ∀ (σ : St) (H : Heap) (locs : List Loc) (x1 : Int32) (ls : Array Slot), K7 σ x1 → gH D ct shX ad s σ H locs → lv_has ls 4 [(0, .ref (ad 0)), (1, .int x1)] → W p l e rm_x_gathersGoings s m args below meth c H locs 0 0 QQ (F0 m 7 ls [])) (K32 : St → Int32 → Prop) (_ : ∀ (σ : St) (H : Heap) (locs : List Loc) (x2 : Int32) (ls : Array Slot), K32 σ x2 → gH D ct shX ad s σ H locs → lv_has ls 4 [(0, .ref (ad 0)), (1, .int x1), (2, .int x2)] → W p l e rm_x_gathersGoings s m args below meth c H locs 0 0 QQ (F0 m 32 ls [])) (K99 : St → Int32 → Prop) (_ : ∀ (σ : St) (H : Heap) (locs : List Loc) (x3 : Int32) (ls : Array Slot), K99 σ x3 → gH D ct shX ad s σ H locs → lv_has ls 4 [(0, .ref (ad 0)), (1, .int x1), (2, .int x2), (3, .int x3)] → W p l e rm_x_gathersGoings s m args below meth c H locs 0 0 QQ (F0 m 99 ls [])) (σ : St) (H : Heap) (locs : List Loc) (x3 : Int32) (ls : Array Slot), x_gathersGoings_p99 x1 x2 Q K7 K32 K99 σ x3 → gH D ct shX ad s σ H locs → lv_has ls 4 [(0, .ref (ad 0)), (1, .int x1), (2, .int x2), (3, .int x3)] → W p l e rm_x_gathersGoings s m args below meth c H locs 0 0 QQ (F0 m 99 ls []) := by
    intro x1 x2 K7 hK7 K32 hK32 K99 hK99 σ H locs x3 ls hf hw hl
    unfold x_gathersGoings_p99 at hf
    refine lv_iload_n C.1 C.2.1 dX0_gathersGoings_99 rfl (lv_at hl 3 rfl) ?_
    refine lv_bipush (v := 13) C.1 C.2.1 dX0_gathersGoings_100 rfl ?_
    refine lv_icmp_ge (tgt := 126) C.1 C.2.1 dX0_gathersGoings_102 (by decide) (fun h102 => ?_) (fun h102 => ?_)
    · replace hf := hf.1 h102
      refine lv_aload_n C.1 C.2.1 dX0_gathersGoings_126 rfl (lv_at hl 0 rfl) ?_
      refine lv_dup C.1 C.2.1 dX0_gathersGoings_127 rfl ?_
      refine xg_goingMany C hw dX0_gathersGoings_128 ?_
      refine lv_iconst (v := 1) C.1 C.2.1 dX0_gathersGoings_131 rfl ?_
      refine lv_iadd C.1 C.2.1 dX0_gathersGoings_132 ?_
      refine xp_goingMany C hw dX0_gathersGoings_133 (fun s133 H locs e133 hw => ?_)
      replace hf := hf s133 e133
      refine lv_iinc (v := (x2 + 1)) (lv' := [(2, .int (x2 + 1)), (0, .ref (ad 0)), (1, .int x1), (3, .int x3)]) C.1 C.2.1 dX0_gathersGoings_136 hl (k := 2) rfl rfl (Nat.le_of_ble_eq_true rfl) rfl (fun ls hl => ?_)
      refine lv_goto (tgt := 32) C.1 C.2.1 dX0_gathersGoings_139 (by decide) ?_
      exact hK32 _ _ _ _ _ hf hw (lv_sub hl [1, 2, 0] rfl)
    · replace hf := hf.2 h102
      refine lv_aload_n C.1 C.2.1 dX0_gathersGoings_105 rfl (lv_at hl 0 rfl) ?_
      refine xg_linkOf C hw dX0_gathersGoings_106 ?_
      refine lv_bipush (v := 13) C.1 C.2.1 dX0_gathersGoings_109 rfl ?_
      refine lv_aload_n C.1 C.2.1 dX0_gathersGoings_111 rfl (lv_at hl 0 rfl) ?_
      refine xg_goingMany C hw dX0_gathersGoings_112 ?_
      refine lv_imul C.1 C.2.1 dX0_gathersGoings_115 ?_
      refine lv_iload_n C.1 C.2.1 dX0_gathersGoings_116 rfl (lv_at hl 3 rfl) ?_
      refine lv_iadd C.1 C.2.1 dX0_gathersGoings_117 ?_
      refine lv_iconst (v := 0) C.1 C.2.1 dX0_gathersGoings_118 rfl ?_
      obtain ⟨b119, hf⟩ := hf
      refine g_iast C shX_sep hw 31 rfl b119 dX0_gathersGoings_119 (fun s119 H locs e119 hw => ?_)
      replace hf := hf s119 e119
      refine lv_iinc (v := (x3 + 1)) (lv' := [(3, .int (x3 + 1)), (0, .ref (ad 0)), (1, .int x1), (2, .int x2)]) C.1 C.2.1 dX0_gathersGoings_120 hl (k := 3) rfl rfl (Nat.le_of_ble_eq_true rfl) rfl (fun ls hl => ?_)
      refine lv_goto (tgt := 99) C.1 C.2.1 dX0_gathersGoings_123 (by decide) ?_
      exact hK99 _ _ _ _ _ hf hw (lv_sub hl [1, 2, 3, 0] rfl)
  have P99 : ∀ (x1 : Int32) (x2 : Int32) (K7 : St → Int32 → Prop) (_ : ∀ (σ : St) (H : Heap) (locs : List Loc) (x1 : Int32) (ls : Array Slot), K7 σ x1 → gH D ct shX ad s σ H locs → lv_has ls 4 [(0, .ref (ad 0)), (1, .int x1)] → W p l e rm_x_gathersGoings s m args below meth c H locs 0 0 QQ (F0 m 7 ls [])) (K32 : St → Int32 → Prop) (_ : ∀ (σ : St) (H : Heap) (locs : List Loc) (x2 : Int32) (ls : Array Slot), K32 σ x2 → gH D ct shX ad s σ H locs → lv_has ls 4 [(0, .ref (ad 0)), (1, .int x1), (2, .int x2)] → W p l e rm_x_gathersGoings s m args below meth c H locs 0 0 QQ (F0 m 32 ls [])) (n : Nat) (σ : St) (x3 : Int32) (ls : Array Slot) (H : Heap) (locs : List Loc), LL2 (x_gathersGoings_p99 x1 x2 Q K7 K32) n σ x3 → gH D ct shX ad s σ H locs → lv_has ls 4 [(0, .ref (ad 0)), (1, .int x1), (2, .int x2), (3, .int x3)] → W p l e rm_x_gathersGoings s m args below meth c H locs 0 0 QQ (F0 m 99 ls []) := by
    intro x1 x2 K7 hK7 K32 hK32 n
    induction n with
    | zero => intro σ x3 ls H locs hf; exact False.elim hf
    | succ n ih => intro σ x3 ls H locs hf hw hl; exact B99 x1 x2 K7 hK7 K32 hK32 (LL2 _ n) (fun σ H locs x3 ls hf hw hl => ih σ x3 ls H locs hf hw hl) σ H locs x3 ls hf hw hl
  have B32 : ∀ (x1 : Int32) (K7 : St → Int32 → Prop) (_ : ∀ (σ : St) (H : Heap) (locs : List Loc) (x1 : Int32) (ls : Array Slot), K7 σ x1 → gH D ct shX ad s σ H locs → lv_has ls 4 [(0, .ref (ad 0)), (1, .int x1)] → W p l e rm_x_gathersGoings s m args below meth c H locs 0 0 QQ (F0 m 7 ls [])) (K32 : St → Int32 → Prop) (_ : ∀ (σ : St) (H : Heap) (locs : List Loc) (x2 : Int32) (ls : Array Slot), K32 σ x2 → gH D ct shX ad s σ H locs → lv_has ls 4 [(0, .ref (ad 0)), (1, .int x1), (2, .int x2)] → W p l e rm_x_gathersGoings s m args below meth c H locs 0 0 QQ (F0 m 32 ls [])) (σ : St) (H : Heap) (locs : List Loc) (x2 : Int32) (ls : Array Slot), x_gathersGoings_p32 x1 Q K7 K32 σ x2 → gH D ct shX ad s σ H locs → lv_has ls 4 [(0, .ref (ad 0)), (1, .int x1), (2, .int x2)] → W p l e rm_x_gathersGoings s m args below meth c H locs 0 0 QQ (F0 m 32 ls []) := by
    intro x1 K7 hK7 K32 hK32 σ H locs x2 ls hf hw hl
    unfold x_gathersGoings_p32 at hf
    refine lv_iload_n C.1 C.2.1 dX0_gathersGoings_32 rfl (lv_at hl 2 rfl) ?_
    refine lv_bipush (v := 52) C.1 C.2.1 dX0_gathersGoings_33 rfl ?_
    refine lv_icmp_ge (tgt := 142) C.1 C.2.1 dX0_gathersGoings_35 (by decide) (fun h35 => ?_) (fun h35 => ?_)
    · replace hf := hf.1 h35
      refine lv_iinc (v := (x1 + 1)) (lv' := [(1, .int (x1 + 1)), (0, .ref (ad 0)), (2, .int x2)]) C.1 C.2.1 dX0_gathersGoings_142 hl (k := 1) rfl rfl (Nat.le_of_ble_eq_true rfl) rfl (fun ls hl => ?_)
      refine lv_goto (tgt := 7) C.1 C.2.1 dX0_gathersGoings_145 (by decide) ?_
      exact hK7 _ _ _ _ _ hf hw (lv_sub hl [1, 0] rfl)
    · replace hf := hf.2 h35
      refine lv_aload_n C.1 C.2.1 dX0_gathersGoings_38 rfl (lv_at hl 0 rfl) ?_
      refine xg_goesTo C hw dX0_gathersGoings_39 ?_
      refine lv_bipush (v := 52) C.1 C.2.1 dX0_gathersGoings_42 rfl ?_
      refine lv_iload_n C.1 C.2.1 dX0_gathersGoings_44 rfl (lv_at hl 1 rfl) ?_
      refine lv_imul C.1 C.2.1 dX0_gathersGoings_45 ?_
      refine lv_iload_n C.1 C.2.1 dX0_gathersGoings_46 rfl (lv_at hl 2 rfl) ?_
      refine lv_iadd C.1 C.2.1 dX0_gathersGoings_47 ?_
      obtain ⟨b48, hf⟩ := hf
      refine g_iald C hw 24 rfl b48 dX0_gathersGoings_48 ?_
      refine lv_bipush (v := (-2)) C.1 C.2.1 dX0_gathersGoings_49 rfl ?_
      refine lv_icmp_ne (tgt := 57) C.1 C.2.1 dX0_gathersGoings_51 (by decide) (fun h51 => ?_) (fun h51 => ?_)
      · replace hf := hf.2 h51
        refine lv_aload_n C.1 C.2.1 dX0_gathersGoings_57 rfl (lv_at hl 0 rfl) ?_
        refine xg_fromOf C hw dX0_gathersGoings_58 ?_
        refine lv_aload_n C.1 C.2.1 dX0_gathersGoings_61 rfl (lv_at hl 0 rfl) ?_
        refine xg_goingMany C hw dX0_gathersGoings_62 ?_
        refine lv_iload_n C.1 C.2.1 dX0_gathersGoings_65 rfl (lv_at hl 1 rfl) ?_
        obtain ⟨b66, hf⟩ := hf
        refine g_iast C shX_sep hw 28 rfl b66 dX0_gathersGoings_66 (fun s66 H locs e66 hw => ?_)
        replace hf := hf s66 e66
        refine lv_aload_n C.1 C.2.1 dX0_gathersGoings_67 rfl (lv_at hl 0 rfl) ?_
        refine xg_byOf C hw dX0_gathersGoings_68 ?_
        refine lv_aload_n C.1 C.2.1 dX0_gathersGoings_71 rfl (lv_at hl 0 rfl) ?_
        refine xg_goingMany C hw dX0_gathersGoings_72 ?_
        refine lv_iload_n C.1 C.2.1 dX0_gathersGoings_75 rfl (lv_at hl 2 rfl) ?_
        obtain ⟨b76, hf⟩ := hf
        refine g_iast C shX_sep hw 29 rfl b76 dX0_gathersGoings_76 (fun s76 H locs e76 hw => ?_)
        replace hf := hf s76 e76
        refine lv_aload_n C.1 C.2.1 dX0_gathersGoings_77 rfl (lv_at hl 0 rfl) ?_
        refine xg_toOf C hw dX0_gathersGoings_78 ?_
        refine lv_aload_n C.1 C.2.1 dX0_gathersGoings_81 rfl (lv_at hl 0 rfl) ?_
        refine xg_goingMany C hw dX0_gathersGoings_82 ?_
        refine lv_aload_n C.1 C.2.1 dX0_gathersGoings_85 rfl (lv_at hl 0 rfl) ?_
        refine xg_goesTo C hw dX0_gathersGoings_86 ?_
        refine lv_bipush (v := 52) C.1 C.2.1 dX0_gathersGoings_89 rfl ?_
        refine lv_iload_n C.1 C.2.1 dX0_gathersGoings_91 rfl (lv_at hl 1 rfl) ?_
        refine lv_imul C.1 C.2.1 dX0_gathersGoings_92 ?_
        refine lv_iload_n C.1 C.2.1 dX0_gathersGoings_93 rfl (lv_at hl 2 rfl) ?_
        refine lv_iadd C.1 C.2.1 dX0_gathersGoings_94 ?_
        refine g_iald C hw 24 rfl b48 dX0_gathersGoings_95 ?_
        obtain ⟨b96, hf⟩ := hf
        refine g_iast C shX_sep hw 30 rfl b96 dX0_gathersGoings_96 (fun s96 H locs e96 hw => ?_)
        replace hf := hf s96 e96
        refine lv_iconst (v := 0) C.1 C.2.1 dX0_gathersGoings_97 rfl ?_
        refine lv_istore_n (lv' := [(3, .int 0), (0, .ref (ad 0)), (1, .int x1), (2, .int x2)]) C.1 C.2.1 dX0_gathersGoings_98 rfl hl (Nat.le_of_ble_eq_true rfl) rfl (fun ls hl => ?_)
        obtain ⟨n, hf⟩ := hf
        exact P99 _ _ _ hK7 _ hK32 n _ _ _ _ _ hf hw (lv_sub hl [1, 2, 3, 0] rfl)
      · replace hf := hf.1 h51
        refine lv_goto (tgt := 136) C.1 C.2.1 dX0_gathersGoings_54 (by decide) ?_
        refine lv_iinc (v := (x2 + 1)) (lv' := [(2, .int (x2 + 1)), (0, .ref (ad 0)), (1, .int x1)]) C.1 C.2.1 dX0_gathersGoings_136 hl (k := 2) rfl rfl (Nat.le_of_ble_eq_true rfl) rfl (fun ls hl => ?_)
        refine lv_goto (tgt := 32) C.1 C.2.1 dX0_gathersGoings_139 (by decide) ?_
        exact hK32 _ _ _ _ _ hf hw (lv_sub hl [1, 2, 0] rfl)
  have P32 : ∀ (x1 : Int32) (K7 : St → Int32 → Prop) (_ : ∀ (σ : St) (H : Heap) (locs : List Loc) (x1 : Int32) (ls : Array Slot), K7 σ x1 → gH D ct shX ad s σ H locs → lv_has ls 4 [(0, .ref (ad 0)), (1, .int x1)] → W p l e rm_x_gathersGoings s m args below meth c H locs 0 0 QQ (F0 m 7 ls [])) (n : Nat) (σ : St) (x2 : Int32) (ls : Array Slot) (H : Heap) (locs : List Loc), LL2 (x_gathersGoings_p32 x1 Q K7) n σ x2 → gH D ct shX ad s σ H locs → lv_has ls 4 [(0, .ref (ad 0)), (1, .int x1), (2, .int x2)] → W p l e rm_x_gathersGoings s m args below meth c H locs 0 0 QQ (F0 m 32 ls []) := by
    intro x1 K7 hK7 n
    induction n with
    | zero => intro σ x2 ls H locs hf; exact False.elim hf
    | succ n ih => intro σ x2 ls H locs hf hw hl; exact B32 x1 K7 hK7 (LL2 _ n) (fun σ H locs x2 ls hf hw hl => ih σ x2 ls H locs hf hw hl) σ H locs x2 ls hf hw hl
  have J29 : ∀ (σ : St) (H : Heap) (locs : List Loc) (x1 : Int32) (v0 : Int32) (v1 : Int32) (K7 : St → Int32 → Prop) (_ : ∀ (σ : St) (H : Heap) (locs : List Loc) (x1 : Int32) (ls : Array Slot), K7 σ x1 → gH D ct shX ad s σ H locs → lv_has ls 4 [(0, .ref (ad 0)), (1, .int x1)] → W p l e rm_x_gathersGoings s m args below meth c H locs 0 0 QQ (F0 m 7 ls [])) (ls : Array Slot), x_gathersGoings_p29 σ x1 Q K7 v0 v1 → gH D ct shX ad s σ H locs → lv_has ls 4 [(0, .ref (ad 0)), (1, .int x1)] → W p l e rm_x_gathersGoings s m args below meth c H locs 0 0 QQ (F0 m 29 ls [.int v0, .int v1, .ref (ad 32)]) := by
    intro σ H locs x1 v0 v1 K7 hK7 ls hf hw hl
    unfold x_gathersGoings_p29 at hf
    obtain ⟨b29, hf⟩ := hf
    refine g_iast C shX_sep hw 32 rfl b29 dX0_gathersGoings_29 (fun s29 H locs e29 hw => ?_)
    replace hf := hf s29 e29
    refine lv_iconst (v := 0) C.1 C.2.1 dX0_gathersGoings_30 rfl ?_
    refine lv_istore_n (lv' := [(2, .int 0), (0, .ref (ad 0)), (1, .int x1)]) C.1 C.2.1 dX0_gathersGoings_31 rfl hl (Nat.le_of_ble_eq_true rfl) rfl (fun ls hl => ?_)
    obtain ⟨n, hf⟩ := hf
    exact P32 _ _ hK7 n _ _ _ _ _ hf hw (lv_sub hl [1, 2, 0] rfl)
  have B7 : ∀ (K7 : St → Int32 → Prop) (_ : ∀ (σ : St) (H : Heap) (locs : List Loc) (x1 : Int32) (ls : Array Slot), K7 σ x1 → gH D ct shX ad s σ H locs → lv_has ls 4 [(0, .ref (ad 0)), (1, .int x1)] → W p l e rm_x_gathersGoings s m args below meth c H locs 0 0 QQ (F0 m 7 ls [])) (σ : St) (H : Heap) (locs : List Loc) (x1 : Int32) (ls : Array Slot), x_gathersGoings_p7 Q K7 σ x1 → gH D ct shX ad s σ H locs → lv_has ls 4 [(0, .ref (ad 0)), (1, .int x1)] → W p l e rm_x_gathersGoings s m args below meth c H locs 0 0 QQ (F0 m 7 ls []) := by
    intro K7 hK7 σ H locs x1 ls hf hw hl
    unfold x_gathersGoings_p7 at hf
    refine lv_iload_n C.1 C.2.1 dX0_gathersGoings_7 rfl (lv_at hl 1 rfl) ?_
    refine lv_aload_n C.1 C.2.1 dX0_gathersGoings_8 rfl (lv_at hl 0 rfl) ?_
    refine xg_stateMany C hw dX0_gathersGoings_9 ?_
    refine lv_icmp_ge (tgt := 148) C.1 C.2.1 dX0_gathersGoings_12 (by decide) (fun h12 => ?_) (fun h12 => ?_)
    · replace hf := hf.1 h12
      exact hret _ _ _ _ _ _ hf hw dX0_gathersGoings_148
    · replace hf := hf.2 h12
      refine lv_aload_n C.1 C.2.1 dX0_gathersGoings_15 rfl (lv_at hl 0 rfl) ?_
      refine xg_aliveOf C hw dX0_gathersGoings_16 ?_
      refine lv_iload_n C.1 C.2.1 dX0_gathersGoings_19 rfl (lv_at hl 1 rfl) ?_
      refine lv_iload_n C.1 C.2.1 dX0_gathersGoings_20 rfl (lv_at hl 1 rfl) ?_
      refine lv_if_ne (tgt := 28) C.1 C.2.1 dX0_gathersGoings_21 (by decide) (fun h21 => ?_) (fun h21 => ?_)
      · replace hf := hf.2 h21
        refine lv_iconst (v := 0) C.1 C.2.1 dX0_gathersGoings_28 rfl ?_
        exact J29 _ _ _ _ _ _ _ hK7 _ hf hw (lv_sub hl [0, 1] rfl)
      · replace hf := hf.1 h21
        refine lv_iconst (v := 1) C.1 C.2.1 dX0_gathersGoings_24 rfl ?_
        refine lv_goto (tgt := 29) C.1 C.2.1 dX0_gathersGoings_25 (by decide) ?_
        exact J29 _ _ _ _ _ _ _ hK7 _ hf hw (lv_sub hl [0, 1] rfl)
  have P7 : ∀ (n : Nat) (σ : St) (x1 : Int32) (ls : Array Slot) (H : Heap) (locs : List Loc), LL2 (x_gathersGoings_p7 Q) n σ x1 → gH D ct shX ad s σ H locs → lv_has ls 4 [(0, .ref (ad 0)), (1, .int x1)] → W p l e rm_x_gathersGoings s m args below meth c H locs 0 0 QQ (F0 m 7 ls []) := by
    intro  n
    induction n with
    | zero => intro σ x1 ls H locs hf; exact False.elim hf
    | succ n ih => intro σ x1 ls H locs hf hw hl; exact B7  (LL2 _ n) (fun σ H locs x1 ls hf hw hl => ih σ x1 ls H locs hf hw hl) σ H locs x1 ls hf hw hl
  unfold x_gathersGoings at hf
  obtain ⟨H, hH⟩ : ∃ q, q = s.heap := ⟨_, rfl⟩
  obtain ⟨locs, hL⟩ : ∃ q : List Loc, q = [] := ⟨_, rfl⟩
  rw [← hH, ← hL] at hw ⊢
  refine lv_aload_n C.1 C.2.1 dX0_gathersGoings_0 rfl (lv_at hl 0 rfl) ?_
  refine lv_iconst (v := 0) C.1 C.2.1 dX0_gathersGoings_1 rfl ?_
  refine xp_goingMany C hw dX0_gathersGoings_2 (fun s2 H locs e2 hw => ?_)
  replace hf := hf s2 e2
  refine lv_iconst (v := 0) C.1 C.2.1 dX0_gathersGoings_5 rfl ?_
  refine lv_istore_n (lv' := [(1, .int 0), (0, .ref (ad 0))]) C.1 C.2.1 dX0_gathersGoings_6 rfl hl (Nat.le_of_ble_eq_true rfl) rfl (fun ls hl => ?_)
  obtain ⟨n, hf⟩ := hf
  exact P7  n _ _ _ _ _ hf hw (lv_sub hl [1, 0] rfl)
theorem kx_gathersGoings {p : Program} {l : Launch} {e : Env} {R : Room} {s : State} {m : MethodId} {args : Array Value} {below : List Frame} {meth : Method} {c : Code} {H : Heap} {locs : List Loc} {Z : State → Prop} {cc : ByteArray} {nL pc : Nat} {ls : Array Slot} {rest : List Value} {D : va_G} {ct : Ct} {ad : Nat → Nat} {σ : St} {Qp : Unit → St → Prop} (C : CallFix p m c cc nL s args lw_all RX0) (hw : gH D ct shX ad s σ H locs) (hsz : ls.size = nL) (hrm : (rest.map fun v => v.category).sum ≤ 8) (hR : rm_x_gathersGoings.frames + 1 ≤ R.frames ∧ 8 + (4 + 11) + rm_x_gathersGoings.locals ≤ R.locals) (hdg : decode cc pc = .ok (.invokevirtual 513, 3)) (hf : x_gathersGoings σ Qp) (kk : ∀ (r : Unit) (σ1 : St) (H1 : Heap) (locs1 : List Loc), Qp r σ1 → gH D ct shX ad s σ1 H1 locs1 → W p l e R s m args below meth c H1 locs1 0 0 Z (F0 m (pc + 3) ls (rest))) : W p l e R s m args below meth c H locs 0 0 Z (F0 m pc ls (.ref (ad 0) :: rest)) :=
  g_callV (As := []) (rest := rest) C hw rfl rfl (met_x_gathersGoings l D ct ad hw.2.1 σ Qp hf) (cwV 0 C.2.2.2.2 (lw_V q1033 q1035 qs65 q200 q1036) rfl rfl rfl (by decide +kernel) hR) rfl hsz rfl hrm ⟨Nat.zero_le _, Nat.zero_le _⟩ hdg kk
def x_goesBack_p113 (σ : St) (x1 : Int32) (x2 : Int32) (x3 : Int32) (Q : Unit → St → Prop) (K25 : St → Int32 → Prop) (K62 : St → Int32 → Prop) (v0 : Int32) (v1 : Int32) (v2 : Int32) : Prop :=
  (vp_in v2 90 ∧ (∀ s114 : St, s114 = s_A σ 34 (Int32.toNatClampNeg v2) (v1 ||| v0) → K62 s114 (x3 + 1)))
def x_goesBack_p62 (x1 : Int32) (x2 : Int32) (Q : Unit → St → Prop) (K25 : St → Int32 → Prop) (K62 : St → Int32 → Prop) (σ : St) (x3 : Int32) : Prop :=
  ((13 ≤ x3 → K25 σ (x2 + 1)) ∧ (¬ 13 ≤ x3 → (vp_in x2 4680 ∧ (vp_in (gI σ 28 x2) 90 ∧ (vp_in ((13 * x2) + x3) 60840 ∧ (vp_in x2 4680 ∧ (vp_in (gI σ 30 x2) 90 ∧ ((((gI σ 31 ((13 * x2) + x3)) &&& (gI σ 33 (gI σ 30 x2))) = 0 → (x_goesBack_p113 σ x1 x2 x3 Q K25 K62 0 (gI σ 34 (gI σ 28 x2)) (gI σ 28 x2))) ∧ (¬ ((gI σ 31 ((13 * x2) + x3)) &&& (gI σ 33 (gI σ 30 x2))) = 0 → (x_goesBack_p113 σ x1 x2 x3 Q K25 K62 (1 <<< (x3 &&& 31)) (gI σ 34 (gI σ 28 x2)) (gI σ 28 x2)))))))))))
def x_goesBack_p25 (x1 : Int32) (Q : Unit → St → Prop) (K25 : St → Int32 → Prop) (σ : St) (x2 : Int32) : Prop :=
  (((σ.1 35) ≤ x2 → (¬ (0 : Int32) < 0 ∧ ¬ (0 : Int32) < 0 ∧ ¬ ((σ.1 25) : Int32) < 0 ∧ (Int32.toNatClampNeg 0) + (Int32.toNatClampNeg (σ.1 25)) ≤ 90 ∧ (Int32.toNatClampNeg 0) + (Int32.toNatClampNeg (σ.1 25)) ≤ 90 ∧ (∀ s141 : St, s141 = s_C σ 34 33 (Int32.toNatClampNeg 0) (Int32.toNatClampNeg 0) (Int32.toNatClampNeg (σ.1 25)) → Q () s141))) ∧ (¬ (σ.1 35) ≤ x2 → (vp_in x2 4680 ∧ (((gI σ 29 x2) = x1 → (vp_in x2 4680 ∧ (vp_in (gI σ 30 x2) 90 ∧ (((gI σ 33 (gI σ 30 x2)) = 0 → K25 σ (x2 + 1)) ∧ (¬ (gI σ 33 (gI σ 30 x2)) = 0 → (Lp2 (x_goesBack_p62 x1 x2 Q K25) σ 0)))))) ∧ (¬ (gI σ 29 x2) = x1 → K25 σ (x2 + 1))))))
def x_goesBack_p2 (x1 : Int32) (Q : Unit → St → Prop) (K2 : St → Int32 → Prop) (σ : St) (x2 : Int32) : Prop :=
  (((σ.1 25) ≤ x2 → (Lp2 (x_goesBack_p25 x1 Q) σ 0)) ∧ (¬ (σ.1 25) ≤ x2 → (vp_in x2 90 ∧ (∀ s16 : St, s16 = s_A σ 34 (Int32.toNatClampNeg x2) 0 → K2 s16 (x2 + 1)))))
def x_goesBack (σ : St) (x1 : Int32) (Q : Unit → St → Prop) : Prop :=
  (Lp2 (x_goesBack_p2 x1 Q) σ 0)
abbrev rm_x_goesBack : Room := { frames := 1, cells := 0, slots := 0, locals := 64 }
set_option maxHeartbeats 4000000 in
theorem met_x_goesBack (l : Launch) (D : va_G) (ct : Ct) (ad : Nat → Nat) (hJ : gJ shX ad ct) (σ : St) (x1 : Int32) (Q : Unit → St → Prop) (hf : x_goesBack σ x1 Q) : Met l yX0_goesBack (ws_ yX0_goesBack cX0_goesBack 4 (none)) rm_x_goesBack (va_Pc [.ref (ad 0), .int x1] (gP D ct shX ad σ)) (gQ rvV D ct shX ad Q) 0 0 (gA shX ad) := by
  refine g_metV hJ (by decide) (Nat.le_of_ble_eq_true rfl) ?_
  intro p e s m args below meth c QQ ls C hw hl hret
  replace hl : lv_has ls 4 [(0, .ref (ad 0)), (1, .int x1)] := hl
  have J113 : ∀ (σ : St) (H : Heap) (locs : List Loc) (x1 : Int32) (x2 : Int32) (x3 : Int32) (v0 : Int32) (v1 : Int32) (v2 : Int32) (K25 : St → Int32 → Prop) (_ : ∀ (σ : St) (H : Heap) (locs : List Loc) (x2 : Int32) (ls : Array Slot), K25 σ x2 → gH D ct shX ad s σ H locs → lv_has ls 4 [(0, .ref (ad 0)), (1, .int x1), (2, .int x2)] → W p l e rm_x_goesBack s m args below meth c H locs 0 0 QQ (F0 m 25 ls [])) (K62 : St → Int32 → Prop) (_ : ∀ (σ : St) (H : Heap) (locs : List Loc) (x3 : Int32) (ls : Array Slot), K62 σ x3 → gH D ct shX ad s σ H locs → lv_has ls 4 [(0, .ref (ad 0)), (1, .int x1), (2, .int x2), (3, .int x3)] → W p l e rm_x_goesBack s m args below meth c H locs 0 0 QQ (F0 m 62 ls [])) (ls : Array Slot), x_goesBack_p113 σ x1 x2 x3 Q K25 K62 v0 v1 v2 → gH D ct shX ad s σ H locs → lv_has ls 4 [(0, .ref (ad 0)), (1, .int x1), (2, .int x2), (3, .int x3)] → W p l e rm_x_goesBack s m args below meth c H locs 0 0 QQ (F0 m 113 ls [.int v0, .int v1, .int v2, .ref (ad 34)]) := by
    intro σ H locs x1 x2 x3 v0 v1 v2 K25 hK25 K62 hK62 ls hf hw hl
    unfold x_goesBack_p113 at hf
    refine lv_ior C.1 C.2.1 dX0_goesBack_113 ?_
    obtain ⟨b114, hf⟩ := hf
    refine g_iast C shX_sep hw 34 rfl b114 dX0_goesBack_114 (fun s114 H locs e114 hw => ?_)
    replace hf := hf s114 e114
    refine lv_iinc (v := (x3 + 1)) (lv' := [(3, .int (x3 + 1)), (0, .ref (ad 0)), (1, .int x1), (2, .int x2)]) C.1 C.2.1 dX0_goesBack_115 hl (k := 3) rfl rfl (Nat.le_of_ble_eq_true rfl) rfl (fun ls hl => ?_)
    refine lv_goto (tgt := 62) C.1 C.2.1 dX0_goesBack_118 (by decide) ?_
    exact hK62 _ _ _ _ _ hf hw (lv_sub hl [1, 2, 3, 0] rfl)
  have B62 : ∀ (x1 : Int32) (x2 : Int32) (K25 : St → Int32 → Prop) (_ : ∀ (σ : St) (H : Heap) (locs : List Loc) (x2 : Int32) (ls : Array Slot), K25 σ x2 → gH D ct shX ad s σ H locs → lv_has ls 4 [(0, .ref (ad 0)), (1, .int x1), (2, .int x2)] → W p l e rm_x_goesBack s m args below meth c H locs 0 0 QQ (F0 m 25 ls [])) (K62 : St → Int32 → Prop) (_ : ∀ (σ : St) (H : Heap) (locs : List Loc) (x3 : Int32) (ls : Array Slot), K62 σ x3 → gH D ct shX ad s σ H locs → lv_has ls 4 [(0, .ref (ad 0)), (1, .int x1), (2, .int x2), (3, .int x3)] → W p l e rm_x_goesBack s m args below meth c H locs 0 0 QQ (F0 m 62 ls [])) (σ : St) (H : Heap) (locs : List Loc) (x3 : Int32) (ls : Array Slot), x_goesBack_p62 x1 x2 Q K25 K62 σ x3 → gH D ct shX ad s σ H locs → lv_has ls 4 [(0, .ref (ad 0)), (1, .int x1), (2, .int x2), (3, .int x3)] → W p l e rm_x_goesBack s m args below meth c H locs 0 0 QQ (F0 m 62 ls []) := by
    intro x1 x2 K25 hK25 K62 hK62 σ H locs x3 ls hf hw hl
    unfold x_goesBack_p62 at hf
    refine lv_iload_n C.1 C.2.1 dX0_goesBack_62 rfl (lv_at hl 3 rfl) ?_
    refine lv_bipush (v := 13) C.1 C.2.1 dX0_goesBack_63 rfl ?_
    refine lv_icmp_ge (tgt := 121) C.1 C.2.1 dX0_goesBack_65 (by decide) (fun h65 => ?_) (fun h65 => ?_)
    · replace hf := hf.1 h65
      refine lv_iinc (v := (x2 + 1)) (lv' := [(2, .int (x2 + 1)), (0, .ref (ad 0)), (1, .int x1), (3, .int x3)]) C.1 C.2.1 dX0_goesBack_121 hl (k := 2) rfl rfl (Nat.le_of_ble_eq_true rfl) rfl (fun ls hl => ?_)
      refine lv_goto (tgt := 25) C.1 C.2.1 dX0_goesBack_124 (by decide) ?_
      exact hK25 _ _ _ _ _ hf hw (lv_sub hl [1, 2, 0] rfl)
    · replace hf := hf.2 h65
      refine lv_aload_n C.1 C.2.1 dX0_goesBack_68 rfl (lv_at hl 0 rfl) ?_
      refine xg_maskThen C hw dX0_goesBack_69 ?_
      refine lv_aload_n C.1 C.2.1 dX0_goesBack_72 rfl (lv_at hl 0 rfl) ?_
      refine xg_fromOf C hw dX0_goesBack_73 ?_
      refine lv_iload_n C.1 C.2.1 dX0_goesBack_76 rfl (lv_at hl 2 rfl) ?_
      obtain ⟨b77, hf⟩ := hf
      refine g_iald C hw 28 rfl b77 dX0_goesBack_77 ?_
      refine lv_dup2_11 C.1 C.2.1 dX0_goesBack_78 rfl rfl ?_
      obtain ⟨b79, hf⟩ := hf
      refine g_iald C hw 34 rfl b79 dX0_goesBack_79 ?_
      refine lv_aload_n C.1 C.2.1 dX0_goesBack_80 rfl (lv_at hl 0 rfl) ?_
      refine xg_linkOf C hw dX0_goesBack_81 ?_
      refine lv_bipush (v := 13) C.1 C.2.1 dX0_goesBack_84 rfl ?_
      refine lv_iload_n C.1 C.2.1 dX0_goesBack_86 rfl (lv_at hl 2 rfl) ?_
      refine lv_imul C.1 C.2.1 dX0_goesBack_87 ?_
      refine lv_iload_n C.1 C.2.1 dX0_goesBack_88 rfl (lv_at hl 3 rfl) ?_
      refine lv_iadd C.1 C.2.1 dX0_goesBack_89 ?_
      obtain ⟨b90, hf⟩ := hf
      refine g_iald C hw 31 rfl b90 dX0_goesBack_90 ?_
      refine lv_aload_n C.1 C.2.1 dX0_goesBack_91 rfl (lv_at hl 0 rfl) ?_
      refine xg_maskOf C hw dX0_goesBack_92 ?_
      refine lv_aload_n C.1 C.2.1 dX0_goesBack_95 rfl (lv_at hl 0 rfl) ?_
      refine xg_toOf C hw dX0_goesBack_96 ?_
      refine lv_iload_n C.1 C.2.1 dX0_goesBack_99 rfl (lv_at hl 2 rfl) ?_
      obtain ⟨b100, hf⟩ := hf
      refine g_iald C hw 30 rfl b100 dX0_goesBack_100 ?_
      obtain ⟨b101, hf⟩ := hf
      refine g_iald C hw 33 rfl b101 dX0_goesBack_101 ?_
      refine lv_iand C.1 C.2.1 dX0_goesBack_102 ?_
      refine lv_if_eq (tgt := 112) C.1 C.2.1 dX0_goesBack_103 (by decide) (fun h103 => ?_) (fun h103 => ?_)
      · replace hf := hf.1 h103
        refine lv_iconst (v := 0) C.1 C.2.1 dX0_goesBack_112 rfl ?_
        exact J113 _ _ _ _ _ _ _ _ _ _ hK25 _ hK62 _ hf hw (lv_sub hl [0, 1, 2, 3] rfl)
      · replace hf := hf.2 h103
        refine lv_iconst (v := 1) C.1 C.2.1 dX0_goesBack_106 rfl ?_
        refine lv_iload_n C.1 C.2.1 dX0_goesBack_107 rfl (lv_at hl 3 rfl) ?_
        refine lv_ishl C.1 C.2.1 dX0_goesBack_108 ?_
        refine lv_goto (tgt := 113) C.1 C.2.1 dX0_goesBack_109 (by decide) ?_
        exact J113 _ _ _ _ _ _ _ _ _ _ hK25 _ hK62 _ hf hw (lv_sub hl [0, 1, 2, 3] rfl)
  have P62 : ∀ (x1 : Int32) (x2 : Int32) (K25 : St → Int32 → Prop) (_ : ∀ (σ : St) (H : Heap) (locs : List Loc) (x2 : Int32) (ls : Array Slot), K25 σ x2 → gH D ct shX ad s σ H locs → lv_has ls 4 [(0, .ref (ad 0)), (1, .int x1), (2, .int x2)] → W p l e rm_x_goesBack s m args below meth c H locs 0 0 QQ (F0 m 25 ls [])) (n : Nat) (σ : St) (x3 : Int32) (ls : Array Slot) (H : Heap) (locs : List Loc), LL2 (x_goesBack_p62 x1 x2 Q K25) n σ x3 → gH D ct shX ad s σ H locs → lv_has ls 4 [(0, .ref (ad 0)), (1, .int x1), (2, .int x2), (3, .int x3)] → W p l e rm_x_goesBack s m args below meth c H locs 0 0 QQ (F0 m 62 ls []) := by
    intro x1 x2 K25 hK25 n
    induction n with
    | zero => intro σ x3 ls H locs hf; exact False.elim hf
    | succ n ih => intro σ x3 ls H locs hf hw hl; exact B62 x1 x2 K25 hK25 (LL2 _ n) (fun σ H locs x3 ls hf hw hl => ih σ x3 ls H locs hf hw hl) σ H locs x3 ls hf hw hl
  have B25 : ∀ (x1 : Int32) (K25 : St → Int32 → Prop) (_ : ∀ (σ : St) (H : Heap) (locs : List Loc) (x2 : Int32) (ls : Array Slot), K25 σ x2 → gH D ct shX ad s σ H locs → lv_has ls 4 [(0, .ref (ad 0)), (1, .int x1), (2, .int x2)] → W p l e rm_x_goesBack s m args below meth c H locs 0 0 QQ (F0 m 25 ls [])) (σ : St) (H : Heap) (locs : List Loc) (x2 : Int32) (ls : Array Slot), x_goesBack_p25 x1 Q K25 σ x2 → gH D ct shX ad s σ H locs → lv_has ls 4 [(0, .ref (ad 0)), (1, .int x1), (2, .int x2)] → W p l e rm_x_goesBack s m args below meth c H locs 0 0 QQ (F0 m 25 ls []) := by
    intro x1 K25 hK25 σ H locs x2 ls hf hw hl
    unfold x_goesBack_p25 at hf
    refine lv_iload_n C.1 C.2.1 dX0_goesBack_25 rfl (lv_at hl 2 rfl) ?_
    refine lv_aload_n C.1 C.2.1 dX0_goesBack_26 rfl (lv_at hl 0 rfl) ?_
    refine xg_goingMany C hw dX0_goesBack_27 ?_
    refine lv_icmp_ge (tgt := 127) C.1 C.2.1 dX0_goesBack_30 (by decide) (fun h30 => ?_) (fun h30 => ?_)
    · replace hf := hf.1 h30
      refine lv_aload_n C.1 C.2.1 dX0_goesBack_127 rfl (lv_at hl 0 rfl) ?_
      refine xg_maskThen C hw dX0_goesBack_128 ?_
      refine lv_iconst (v := 0) C.1 C.2.1 dX0_goesBack_131 rfl ?_
      refine lv_aload_n C.1 C.2.1 dX0_goesBack_132 rfl (lv_at hl 0 rfl) ?_
      refine xg_maskOf C hw dX0_goesBack_133 ?_
      refine lv_iconst (v := 0) C.1 C.2.1 dX0_goesBack_136 rfl ?_
      refine lv_aload_n C.1 C.2.1 dX0_goesBack_137 rfl (lv_at hl 0 rfl) ?_
      refine xg_stateMany C hw dX0_goesBack_138 ?_
      obtain ⟨c1411, c1412, c1413, c1414, c1415, hf⟩ := hf
      refine g_copy C shX_sep hw hl.1 q935 q937 q936 q211 34 33 rfl rfl c1411 c1412 c1413 c1414 c1415 (Nat.le_of_ble_eq_true rfl) (Nat.le_of_ble_eq_true rfl) dX0_goesBack_141 (fun s141 H locs e141 hw => ?_)
      replace hf := hf s141 e141
      exact hret _ _ _ _ _ _ hf hw dX0_goesBack_144
    · replace hf := hf.2 h30
      refine lv_aload_n C.1 C.2.1 dX0_goesBack_33 rfl (lv_at hl 0 rfl) ?_
      refine xg_byOf C hw dX0_goesBack_34 ?_
      refine lv_iload_n C.1 C.2.1 dX0_goesBack_37 rfl (lv_at hl 2 rfl) ?_
      obtain ⟨b38, hf⟩ := hf
      refine g_iald C hw 29 rfl b38 dX0_goesBack_38 ?_
      refine lv_iload_n C.1 C.2.1 dX0_goesBack_39 rfl (lv_at hl 1 rfl) ?_
      refine lv_icmp_ne (tgt := 121) C.1 C.2.1 dX0_goesBack_40 (by decide) (fun h40 => ?_) (fun h40 => ?_)
      · replace hf := hf.2 h40
        refine lv_iinc (v := (x2 + 1)) (lv' := [(2, .int (x2 + 1)), (0, .ref (ad 0)), (1, .int x1)]) C.1 C.2.1 dX0_goesBack_121 hl (k := 2) rfl rfl (Nat.le_of_ble_eq_true rfl) rfl (fun ls hl => ?_)
        refine lv_goto (tgt := 25) C.1 C.2.1 dX0_goesBack_124 (by decide) ?_
        exact hK25 _ _ _ _ _ hf hw (lv_sub hl [1, 2, 0] rfl)
      · replace hf := hf.1 h40
        refine lv_aload_n C.1 C.2.1 dX0_goesBack_43 rfl (lv_at hl 0 rfl) ?_
        refine xg_maskOf C hw dX0_goesBack_44 ?_
        refine lv_aload_n C.1 C.2.1 dX0_goesBack_47 rfl (lv_at hl 0 rfl) ?_
        refine xg_toOf C hw dX0_goesBack_48 ?_
        refine lv_iload_n C.1 C.2.1 dX0_goesBack_51 rfl (lv_at hl 2 rfl) ?_
        obtain ⟨b52, hf⟩ := hf
        refine g_iald C hw 30 rfl b52 dX0_goesBack_52 ?_
        obtain ⟨b53, hf⟩ := hf
        refine g_iald C hw 33 rfl b53 dX0_goesBack_53 ?_
        refine lv_if_ne (tgt := 60) C.1 C.2.1 dX0_goesBack_54 (by decide) (fun h54 => ?_) (fun h54 => ?_)
        · replace hf := hf.2 h54
          refine lv_iconst (v := 0) C.1 C.2.1 dX0_goesBack_60 rfl ?_
          refine lv_istore_n (lv' := [(3, .int 0), (0, .ref (ad 0)), (1, .int x1), (2, .int x2)]) C.1 C.2.1 dX0_goesBack_61 rfl hl (Nat.le_of_ble_eq_true rfl) rfl (fun ls hl => ?_)
          obtain ⟨n, hf⟩ := hf
          exact P62 _ _ _ hK25 n _ _ _ _ _ hf hw (lv_sub hl [1, 2, 3, 0] rfl)
        · replace hf := hf.1 h54
          refine lv_goto (tgt := 121) C.1 C.2.1 dX0_goesBack_57 (by decide) ?_
          refine lv_iinc (v := (x2 + 1)) (lv' := [(2, .int (x2 + 1)), (0, .ref (ad 0)), (1, .int x1)]) C.1 C.2.1 dX0_goesBack_121 hl (k := 2) rfl rfl (Nat.le_of_ble_eq_true rfl) rfl (fun ls hl => ?_)
          refine lv_goto (tgt := 25) C.1 C.2.1 dX0_goesBack_124 (by decide) ?_
          exact hK25 _ _ _ _ _ hf hw (lv_sub hl [1, 2, 0] rfl)
  have P25 : ∀ (x1 : Int32) (n : Nat) (σ : St) (x2 : Int32) (ls : Array Slot) (H : Heap) (locs : List Loc), LL2 (x_goesBack_p25 x1 Q) n σ x2 → gH D ct shX ad s σ H locs → lv_has ls 4 [(0, .ref (ad 0)), (1, .int x1), (2, .int x2)] → W p l e rm_x_goesBack s m args below meth c H locs 0 0 QQ (F0 m 25 ls []) := by
    intro x1 n
    induction n with
    | zero => intro σ x2 ls H locs hf; exact False.elim hf
    | succ n ih => intro σ x2 ls H locs hf hw hl; exact B25 x1 (LL2 _ n) (fun σ H locs x2 ls hf hw hl => ih σ x2 ls H locs hf hw hl) σ H locs x2 ls hf hw hl
  have B2 : ∀ (x1 : Int32) (K2 : St → Int32 → Prop) (_ : ∀ (σ : St) (H : Heap) (locs : List Loc) (x2 : Int32) (ls : Array Slot), K2 σ x2 → gH D ct shX ad s σ H locs → lv_has ls 4 [(0, .ref (ad 0)), (1, .int x1), (2, .int x2)] → W p l e rm_x_goesBack s m args below meth c H locs 0 0 QQ (F0 m 2 ls [])) (σ : St) (H : Heap) (locs : List Loc) (x2 : Int32) (ls : Array Slot), x_goesBack_p2 x1 Q K2 σ x2 → gH D ct shX ad s σ H locs → lv_has ls 4 [(0, .ref (ad 0)), (1, .int x1), (2, .int x2)] → W p l e rm_x_goesBack s m args below meth c H locs 0 0 QQ (F0 m 2 ls []) := by
    intro x1 K2 hK2 σ H locs x2 ls hf hw hl
    unfold x_goesBack_p2 at hf
    refine lv_iload_n C.1 C.2.1 dX0_goesBack_2 rfl (lv_at hl 2 rfl) ?_
    refine lv_aload_n C.1 C.2.1 dX0_goesBack_3 rfl (lv_at hl 0 rfl) ?_
    refine xg_stateMany C hw dX0_goesBack_4 ?_
    refine lv_icmp_ge (tgt := 23) C.1 C.2.1 dX0_goesBack_7 (by decide) (fun h7 => ?_) (fun h7 => ?_)
    · replace hf := hf.1 h7
      refine lv_iconst (v := 0) C.1 C.2.1 dX0_goesBack_23 rfl ?_
      refine lv_istore_n (lv' := [(2, .int 0), (0, .ref (ad 0)), (1, .int x1)]) C.1 C.2.1 dX0_goesBack_24 rfl hl (Nat.le_of_ble_eq_true rfl) rfl (fun ls hl => ?_)
      obtain ⟨n, hf⟩ := hf
      exact P25 _ n _ _ _ _ _ hf hw (lv_sub hl [1, 2, 0] rfl)
    · replace hf := hf.2 h7
      refine lv_aload_n C.1 C.2.1 dX0_goesBack_10 rfl (lv_at hl 0 rfl) ?_
      refine xg_maskThen C hw dX0_goesBack_11 ?_
      refine lv_iload_n C.1 C.2.1 dX0_goesBack_14 rfl (lv_at hl 2 rfl) ?_
      refine lv_iconst (v := 0) C.1 C.2.1 dX0_goesBack_15 rfl ?_
      obtain ⟨b16, hf⟩ := hf
      refine g_iast C shX_sep hw 34 rfl b16 dX0_goesBack_16 (fun s16 H locs e16 hw => ?_)
      replace hf := hf s16 e16
      refine lv_iinc (v := (x2 + 1)) (lv' := [(2, .int (x2 + 1)), (0, .ref (ad 0)), (1, .int x1)]) C.1 C.2.1 dX0_goesBack_17 hl (k := 2) rfl rfl (Nat.le_of_ble_eq_true rfl) rfl (fun ls hl => ?_)
      refine lv_goto (tgt := 2) C.1 C.2.1 dX0_goesBack_20 (by decide) ?_
      exact hK2 _ _ _ _ _ hf hw (lv_sub hl [1, 2, 0] rfl)
  have P2 : ∀ (x1 : Int32) (n : Nat) (σ : St) (x2 : Int32) (ls : Array Slot) (H : Heap) (locs : List Loc), LL2 (x_goesBack_p2 x1 Q) n σ x2 → gH D ct shX ad s σ H locs → lv_has ls 4 [(0, .ref (ad 0)), (1, .int x1), (2, .int x2)] → W p l e rm_x_goesBack s m args below meth c H locs 0 0 QQ (F0 m 2 ls []) := by
    intro x1 n
    induction n with
    | zero => intro σ x2 ls H locs hf; exact False.elim hf
    | succ n ih => intro σ x2 ls H locs hf hw hl; exact B2 x1 (LL2 _ n) (fun σ H locs x2 ls hf hw hl => ih σ x2 ls H locs hf hw hl) σ H locs x2 ls hf hw hl
  unfold x_goesBack at hf
  obtain ⟨H, hH⟩ : ∃ q, q = s.heap := ⟨_, rfl⟩
  obtain ⟨locs, hL⟩ : ∃ q : List Loc, q = [] := ⟨_, rfl⟩
  rw [← hH, ← hL] at hw ⊢
  refine lv_iconst (v := 0) C.1 C.2.1 dX0_goesBack_0 rfl ?_
  refine lv_istore_n (lv' := [(2, .int 0), (0, .ref (ad 0)), (1, .int x1)]) C.1 C.2.1 dX0_goesBack_1 rfl hl (Nat.le_of_ble_eq_true rfl) rfl (fun ls hl => ?_)
  obtain ⟨n, hf⟩ := hf
  exact P2 _ n _ _ _ _ _ hf hw (lv_sub hl [1, 2, 0] rfl)
theorem kx_goesBack {p : Program} {l : Launch} {e : Env} {R : Room} {s : State} {m : MethodId} {args : Array Value} {below : List Frame} {meth : Method} {c : Code} {H : Heap} {locs : List Loc} {Z : State → Prop} {cc : ByteArray} {nL pc : Nat} {ls : Array Slot} {rest : List Value} {D : va_G} {ct : Ct} {ad : Nat → Nat} {σ : St} {x1 : Int32} {Qp : Unit → St → Prop} (C : CallFix p m c cc nL s args lw_all RX0) (hw : gH D ct shX ad s σ H locs) (hsz : ls.size = nL) (hrm : (rest.map fun v => v.category).sum ≤ 8) (hR : rm_x_goesBack.frames + 1 ≤ R.frames ∧ 8 + (4 + 11) + rm_x_goesBack.locals ≤ R.locals) (hdg : decode cc pc = .ok (.invokevirtual 506, 3)) (hf : x_goesBack σ x1 Qp) (kk : ∀ (r : Unit) (σ1 : St) (H1 : Heap) (locs1 : List Loc), Qp r σ1 → gH D ct shX ad s σ1 H1 locs1 → W p l e R s m args below meth c H1 locs1 0 0 Z (F0 m (pc + 3) ls (rest))) : W p l e R s m args below meth c H locs 0 0 Z (F0 m pc ls (.int x1 :: .ref (ad 0) :: rest)) :=
  g_callV (As := [.int x1]) (rest := rest) C hw rfl rfl (met_x_goesBack l D ct ad hw.2.1 σ x1 Qp hf) (cwV 1 C.2.2.2.2 (lw_V q1041 q1043 qs67 q200 q1044) rfl rfl rfl (by decide +kernel) hR) rfl hsz rfl hrm ⟨Nat.zero_le _, Nat.zero_le _⟩ hdg kk
def x_isLevel (σ : St) (x1 : Int32) (Q : Int32 → Prop) : Prop :=
  ((x1 < 0 → Q 0) ∧ (¬ x1 < 0 → (((σ.1 4) < x1 → Q 0) ∧ (¬ (σ.1 4) < x1 → Q 1))))
abbrev rm_x_isLevel : Room := { frames := 0, cells := 0, slots := 0, locals := 0 }
set_option maxHeartbeats 4000000 in
theorem met_x_isLevel (l : Launch) (D : va_G) (ct : Ct) (ad : Nat → Nat) (hJ : gJ shX ad ct) (σ : St) (x1 : Int32) (Q : Int32 → Prop) (hf : x_isLevel σ x1 Q) : Met l yX0_isLevel (ws_ yX0_isLevel cX0_isLevel 2 (some .boolean)) rm_x_isLevel (va_Pc [.ref (ad 0), .int x1] (gP D ct shX ad σ)) (gR rvI Q) 0 0 (fun _ => False) := by
  refine g_metRZ hJ (by decide) (Nat.le_of_ble_eq_true rfl) ?_
  intro p e s m args below meth c QQ ls H C hw hl hret
  replace hl : lv_has ls 2 [(0, .ref (ad 0)), (1, .int x1)] := hl
  unfold x_isLevel at hf
  refine lv_aload_n C.1 C.2.1 dX0_isLevel_0 rfl (lv_at hl 0 rfl) ?_
  refine xg_grammar C hw dX0_isLevel_1 ?_
  refine lv_ifnull C.1 C.2.1 dX0_isLevel_4 ?_
  refine lv_iload_n C.1 C.2.1 dX0_isLevel_7 rfl (lv_at hl 1 rfl) ?_
  refine lv_if_lt (tgt := 23) C.1 C.2.1 dX0_isLevel_8 (by decide) (fun h8 => ?_) (fun h8 => ?_)
  · replace hf := hf.1 h8
    refine lv_iconst (v := 0) C.1 C.2.1 dX0_isLevel_23 rfl ?_
    exact hret _ _ _ hf (Or.inl rfl) dX0_isLevel_24
  · replace hf := hf.2 h8
    refine lv_iload_n C.1 C.2.1 dX0_isLevel_11 rfl (lv_at hl 1 rfl) ?_
    refine lv_aload_n C.1 C.2.1 dX0_isLevel_12 rfl (lv_at hl 0 rfl) ?_
    refine xg_textMany C hw dX0_isLevel_13 ?_
    refine lv_icmp_gt (tgt := 23) C.1 C.2.1 dX0_isLevel_16 (by decide) (fun h16 => ?_) (fun h16 => ?_)
    · replace hf := hf.1 h16
      refine lv_iconst (v := 0) C.1 C.2.1 dX0_isLevel_23 rfl ?_
      exact hret _ _ _ hf (Or.inl rfl) dX0_isLevel_24
    · replace hf := hf.2 h16
      refine lv_iconst (v := 1) C.1 C.2.1 dX0_isLevel_19 rfl ?_
      refine lv_goto (tgt := 24) C.1 C.2.1 dX0_isLevel_20 (by decide) ?_
      exact hret _ _ _ hf (Or.inr rfl) dX0_isLevel_24
def fx_isLevel (σ : St) (x1 : Int32) : Int32 :=
  (if x1 < 0 then 0 else (if (σ.1 4) < x1 then 0 else 1))
theorem fx_isLevel_z {σ : St} {x1 : Int32} : zB (fx_isLevel σ x1) := by
  unfold fx_isLevel
  repeat' split
  all_goals first | exact Or.inl rfl | exact Or.inr rfl
theorem x_isLevel_f {Q : Int32 → Prop} {σ : St} {x1 : Int32} (h : Q (fx_isLevel σ x1)) : x_isLevel σ x1 Q := by
  unfold fx_isLevel at h
  unfold x_isLevel
  refine ⟨fun c => ?_, fun c => ?_⟩
  · rw [if_pos c] at h
    exact h
  · rw [if_neg c] at h
    refine ⟨fun c => ?_, fun c => ?_⟩
    · rw [if_pos c] at h
      exact h
    · rw [if_neg c] at h
      exact h
theorem kx_isLevel {p : Program} {l : Launch} {e : Env} {R : Room} {s : State} {m : MethodId} {args : Array Value} {below : List Frame} {meth : Method} {c : Code} {H : Heap} {locs : List Loc} {Z : State → Prop} {cc : ByteArray} {nL pc : Nat} {ls : Array Slot} {rest : List Value} {D : va_G} {ct : Ct} {ad : Nat → Nat} {σ : St} {x1 : Int32} (C : CallFix p m c cc nL s args lw_all RX0) (hw : gH D ct shX ad s σ H locs) (hsz : ls.size = nL) (hrm : (rest.map fun v => v.category).sum ≤ 8) (hR : rm_x_isLevel.frames + 1 ≤ R.frames ∧ 8 + (2 + 11) + rm_x_isLevel.locals ≤ R.locals) (hdg : decode cc pc = .ok (.invokevirtual 522, 3)) (kk : W p l e R s m args below meth c H locs 0 0 Z (F0 m (pc + 3) ls (.int (fx_isLevel σ x1) :: rest))) : W p l e R s m args below meth c H locs 0 0 Z (F0 m pc ls (.int x1 :: .ref (ad 0) :: rest)) :=
  g_callVRf (As := [.int x1]) (rest := rest) C hw rfl rfl (met_x_isLevel l D ct ad hw.2.1 σ x1 (fun r => r = fx_isLevel σ x1) (x_isLevel_f rfl)) (cwV 1 C.2.2.2.2 (lw_V q1025 q1027 qs63 q200 q1028) rfl rfl rfl (by decide +kernel) hR) rfl hsz rfl hrm ⟨Nat.zero_le _, Nat.zero_le _⟩ hdg kk
def x_or (x0 : Int32) (x1 : Int32) (Q : Int32 → Prop) : Prop :=
  Q (x0 ||| x1)
abbrev rm_x_or : Room := { frames := 0, cells := 0, slots := 0, locals := 0 }
set_option maxHeartbeats 4000000 in
theorem met_x_or (l : Launch) (x0 : Int32) (x1 : Int32) (Q : Int32 → Prop) (hf : x_or x0 x1 Q) : Met l yX0_or (ws_ yX0_or cX0_or 2 (some .int)) rm_x_or (va_Pc [.int x0, .int x1] (fun _ => True)) (gR rvI Q) 0 0 (fun _ => False) := by
  refine g_metSI (by decide) (Nat.le_of_ble_eq_true rfl) ?_
  intro p e s m args below meth c QQ ls H C hl hret
  replace hl : lv_has ls 2 [(0, .int x0), (1, .int x1)] := hl
  unfold x_or at hf
  refine lv_iload_n C.1 C.2.1 dX0_or_0 rfl (lv_at hl 0 rfl) ?_
  refine lv_iload_n C.1 C.2.1 dX0_or_1 rfl (lv_at hl 1 rfl) ?_
  refine lv_ior C.1 C.2.1 dX0_or_2 ?_
  exact hret _ _ _ hf dX0_or_3
def fx_or (x0 : Int32) (x1 : Int32) : Int32 :=
  (x0 ||| x1)
theorem x_or_f {Q : Int32 → Prop} {x0 : Int32} {x1 : Int32} (h : Q (fx_or x0 x1)) : x_or x0 x1 Q := by
  unfold fx_or at h
  unfold x_or
  exact h
def x_and (x0 : Int32) (x1 : Int32) (Q : Int32 → Prop) : Prop :=
  Q (x0 &&& x1)
abbrev rm_x_and : Room := { frames := 0, cells := 0, slots := 0, locals := 0 }
set_option maxHeartbeats 4000000 in
theorem met_x_and (l : Launch) (x0 : Int32) (x1 : Int32) (Q : Int32 → Prop) (hf : x_and x0 x1 Q) : Met l yX0_and (ws_ yX0_and cX0_and 2 (some .int)) rm_x_and (va_Pc [.int x0, .int x1] (fun _ => True)) (gR rvI Q) 0 0 (fun _ => False) := by
  refine g_metSI (by decide) (Nat.le_of_ble_eq_true rfl) ?_
  intro p e s m args below meth c QQ ls H C hl hret
  replace hl : lv_has ls 2 [(0, .int x0), (1, .int x1)] := hl
  unfold x_and at hf
  refine lv_iload_n C.1 C.2.1 dX0_and_0 rfl (lv_at hl 0 rfl) ?_
  refine lv_iload_n C.1 C.2.1 dX0_and_1 rfl (lv_at hl 1 rfl) ?_
  refine lv_iand C.1 C.2.1 dX0_and_2 ?_
  exact hret _ _ _ hf dX0_and_3
def fx_and (x0 : Int32) (x1 : Int32) : Int32 :=
  (x0 &&& x1)
theorem x_and_f {Q : Int32 → Prop} {x0 : Int32} {x1 : Int32} (h : Q (fx_and x0 x1)) : x_and x0 x1 Q := by
  unfold fx_and at h
  unfold x_and
  exact h
