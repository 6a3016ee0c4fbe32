set_option maxRecDepth 100000
def z_in (x0 : Int64) (x2 : Int64) (x4 : Int64) (Q : Int32 → Prop) : Prop :=
  ((x0 < x2 → Q 0) ∧ (¬ x0 < x2 → ((x4 < x0 → Q 0) ∧ (¬ x4 < x0 → Q 1))))
abbrev rm_z_in : Room := { frames := 0, cells := 0, slots := 0, locals := 0 }
set_option maxHeartbeats 4000000 in
theorem met_z_in (l : Launch) (x0 : Int64) (x2 : Int64) (x4 : Int64) (Q : Int32 → Prop) (hf : z_in x0 x2 x4 Q) : Met l yX0_in (ws_ yX0_in cX0_in 6 (some .boolean)) rm_z_in (va_Pc [.long x0, .long x2, .long x4] (fun _ => True)) (gR rvI Q) 0 0 (fun _ => False) := by
  refine g_metSZ (by decide) (Nat.le_of_ble_eq_true rfl) ?_
  intro p e s m args below meth c QQ ls H C hl hret
  replace hl : lv_has ls 6 [(0, .long x0), (2, .long x2), (4, .long x4)] := hl
  unfold z_in at hf
  refine lv_lload_n C.1 C.2.1 dX0_in_0 rfl (lv_at hl 0 rfl) ?_
  refine lv_lload_n C.1 C.2.1 dX0_in_1 rfl (lv_at hl 1 rfl) ?_
  refine W.lcmp C.1 C.2.1 dX0_in_2 ?_
  refine lv_if_lt (tgt := 17) C.1 C.2.1 dX0_in_3 (by decide) (fun h3 => ?_) (fun h3 => ?_)
  · replace hf := hf.1 ((lg_cmp_lt _ _).mp h3)
    refine lv_iconst (v := 0) C.1 C.2.1 dX0_in_17 rfl ?_
    exact hret _ _ _ hf (Or.inl rfl) dX0_in_18
  · replace hf := hf.2 (fun q => h3 ((lg_cmp_lt _ _).mpr q))
    refine lv_lload_n C.1 C.2.1 dX0_in_6 rfl (lv_at hl 0 rfl) ?_
    refine lv_lload C.1 C.2.1 dX0_in_7 (lv_at hl 2 rfl) ?_
    refine W.lcmp C.1 C.2.1 dX0_in_9 ?_
    refine lv_if_gt (tgt := 17) C.1 C.2.1 dX0_in_10 (by decide) (fun h10 => ?_) (fun h10 => ?_)
    · replace hf := hf.1 ((lg_cmp_gt _ _).mp h10)
      refine lv_iconst (v := 0) C.1 C.2.1 dX0_in_17 rfl ?_
      exact hret _ _ _ hf (Or.inl rfl) dX0_in_18
    · replace hf := hf.2 (fun q => h10 ((lg_cmp_gt _ _).mpr q))
      refine lv_iconst (v := 1) C.1 C.2.1 dX0_in_13 rfl ?_
      refine lv_goto (tgt := 18) C.1 C.2.1 dX0_in_14 (by decide) ?_
      exact hret _ _ _ hf (Or.inr rfl) dX0_in_18
def fz_in (x0 : Int64) (x2 : Int64) (x4 : Int64) : Int32 :=
  (if x0 < x2 then 0 else (if x4 < x0 then 0 else 1))
theorem fz_in_z {x0 : Int64} {x2 : Int64} {x4 : Int64} : zB (fz_in x0 x2 x4) := by
  unfold fz_in
  repeat' split
  all_goals first | exact Or.inl rfl | exact Or.inr rfl
theorem z_in_f {Q : Int32 → Prop} {x0 : Int64} {x2 : Int64} {x4 : Int64} (h : Q (fz_in x0 x2 x4)) : z_in x0 x2 x4 Q := by
  unfold fz_in at h
  unfold z_in
  refine ⟨fun c => ?_, fun c => ?_⟩
  · rw [if_pos c] at h
    exact h
  · rw [if_neg c] at h
    refine ⟨fun c => ?_, fun c => ?_⟩
    · rw [if_pos c] at h
      exact h
    · rw [if_neg c] at h
      exact h
theorem kz_in {p : Program} {l : Launch} {e : Env} {R : Room} {s : State} {m : MethodId} {args : Array Value} {below : List Frame} {meth : Method} {c : Code} {H : Heap} {locs : List Loc} {Z : State → Prop} {cc : ByteArray} {nL pc : Nat} {ls : Array Slot} {rest : List Value} {x0 : Int64} {x2 : Int64} {x4 : Int64} (C : CallFix p m c cc nL s args lw_all RX0) (hsz : ls.size = nL) (hrm : (rest.map fun v => v.category).sum ≤ 8) (hR : rm_z_in.frames + 1 ≤ R.frames ∧ 8 + (6 + 11) + rm_z_in.locals ≤ R.locals) (hdg : decode cc pc = .ok (.invokestatic 219, 3)) (kk : W p l e R s m args below meth c H locs 0 0 Z (F0 m (pc + 3) ls (.int (fz_in x0 x2 x4) :: rest))) : W p l e R s m args below meth c H locs 0 0 Z (F0 m pc ls (.long x4 :: .long x2 :: .long x0 :: rest)) :=
  g_callSRf (As := [.long x0, .long x2, .long x4]) (rest := rest) C (met_z_in l x0 x2 x4 (fun r => r = fz_in x0 x2 x4) (z_in_f rfl)) (va_cwS 3 C.2.2.2.2 (lw_S q862 q719 q200 q720) rfl rfl rfl (by decide +kernel) hR) rfl hsz rfl hrm ⟨Nat.zero_le _, Nat.zero_le _⟩ hdg kk
def z_has (x0 : Int32) (x1 : Int32) (Q : Int32 → Prop) : Prop :=
  ((((x0 >>> (x1 &&& 31)) &&& 1) = 1 → Q 1) ∧ (¬ ((x0 >>> (x1 &&& 31)) &&& 1) = 1 → Q 0))
abbrev rm_z_has : Room := { frames := 0, cells := 0, slots := 0, locals := 0 }
set_option maxHeartbeats 4000000 in
theorem met_z_has (l : Launch) (x0 : Int32) (x1 : Int32) (Q : Int32 → Prop) (hf : z_has x0 x1 Q) : Met l yX0_has (ws_ yX0_has cX0_has 2 (some .boolean)) rm_z_has (va_Pc [.int x0, .int x1] (fun _ => True)) (gR rvI Q) 0 0 (fun _ => False) := by
  refine g_metSZ (by decide) (Nat.le_of_ble_eq_true rfl) ?_
  intro p e s m args below meth c QQ ls H C hl hret
  replace hl : lv_has ls 2 [(0, .int x0), (1, .int x1)] := hl
  unfold z_has at hf
  refine lv_iload_n C.1 C.2.1 dX0_has_0 rfl (lv_at hl 0 rfl) ?_
  refine lv_iload_n C.1 C.2.1 dX0_has_1 rfl (lv_at hl 1 rfl) ?_
  refine lv_ishr C.1 C.2.1 dX0_has_2 ?_
  refine lv_iconst (v := 1) C.1 C.2.1 dX0_has_3 rfl ?_
  refine lv_iand C.1 C.2.1 dX0_has_4 ?_
  refine lv_iconst (v := 1) C.1 C.2.1 dX0_has_5 rfl ?_
  refine lv_icmp_ne (tgt := 13) C.1 C.2.1 dX0_has_6 (by decide) (fun h6 => ?_) (fun h6 => ?_)
  · replace hf := hf.2 h6
    refine lv_iconst (v := 0) C.1 C.2.1 dX0_has_13 rfl ?_
    exact hret _ _ _ hf (Or.inl rfl) dX0_has_14
  · replace hf := hf.1 h6
    refine lv_iconst (v := 1) C.1 C.2.1 dX0_has_9 rfl ?_
    refine lv_goto (tgt := 14) C.1 C.2.1 dX0_has_10 (by decide) ?_
    exact hret _ _ _ hf (Or.inr rfl) dX0_has_14
def fz_has (x0 : Int32) (x1 : Int32) : Int32 :=
  (if ((x0 >>> (x1 &&& 31)) &&& 1) = 1 then 1 else 0)
theorem fz_has_z {x0 : Int32} {x1 : Int32} : zB (fz_has x0 x1) := by
  unfold fz_has
  repeat' split
  all_goals first | exact Or.inl rfl | exact Or.inr rfl
theorem z_has_f {Q : Int32 → Prop} {x0 : Int32} {x1 : Int32} (h : Q (fz_has x0 x1)) : z_has x0 x1 Q := by
  unfold fz_has at h
  unfold z_has
  refine ⟨fun c => ?_, fun c => ?_⟩
  · rw [if_pos c] at h
    exact h
  · rw [if_neg c] at h
    exact h
theorem kz_has {p : Program} {l : Launch} {e : Env} {R : Room} {s : State} {m : MethodId} {args : Array Value} {below : List Frame} {meth : Method} {c : Code} {H : Heap} {locs : List Loc} {Z : State → Prop} {cc : ByteArray} {nL pc : Nat} {ls : Array Slot} {rest : List Value} {x0 : Int32} {x1 : Int32} (C : CallFix p m c cc nL s args lw_all RX0) (hsz : ls.size = nL) (hrm : (rest.map fun v => v.category).sum ≤ 8) (hR : rm_z_has.frames + 1 ≤ R.frames ∧ 8 + (2 + 11) + rm_z_has.locals ≤ R.locals) (hdg : decode cc pc = .ok (.invokestatic 211, 3)) (kk : W p l e R s m args below meth c H locs 0 0 Z (F0 m (pc + 3) ls (.int (fz_has x0 x1) :: rest))) : W p l e R s m args below meth c H locs 0 0 Z (F0 m pc ls (.int x1 :: .int x0 :: rest)) :=
  g_callSRf (As := [.int x0, .int x1]) (rest := rest) C (met_z_has l x0 x1 (fun r => r = fz_has x0 x1) (z_has_f rfl)) (va_cwS 2 C.2.2.2.2 (lw_S q316 q317 q200 q318) rfl rfl rfl (by decide +kernel) hR) rfl hsz rfl hrm ⟨Nat.zero_le _, Nat.zero_le _⟩ hdg kk
def z_isRule (σ : St) (x1 : Int32) (Q : Int32 → Prop) : Prop :=
  Q 0
abbrev rm_z_isRule : Room := { frames := 0, cells := 0, slots := 0, locals := 0 }
set_option maxHeartbeats 4000000 in
theorem met_z_isRule (l : Launch) (D : va_G) (ct : Ct) (ad : Nat → Nat) (hJ : gJ shZ ad ct) (σ : St) (x1 : Int32) (Q : Int32 → Prop) (hf : z_isRule σ x1 Q) : Met l yX0_isRule (ws_ yX0_isRule cX0_isRule 2 (some .boolean)) rm_z_isRule (va_Pc [.ref (ad 0), .int x1] (gP D ct shZ ad σ)) (gR rvI Q) 0 0 (fun _ => False) := by
  refine g_metRZ hJ (by decide) (Nat.le_of_ble_eq_true rfl) ?_
  intro p e s m args below meth c QQ ls H C hw hl hret
  replace hl : lv_has ls 2 [(0, .ref (ad 0)), (1, .int x1)] := hl
  unfold z_isRule at hf
  refine lv_aload_n C.1 C.2.1 dX0_isRule_0 rfl (lv_at hl 0 rfl) ?_
  refine zg_grammar C hw dX0_isRule_1 ?_
  refine lv_ifnullN (tgt := 26) C.1 C.2.1 dX0_isRule_4 (by decide) ?_
  refine lv_iconst (v := 0) C.1 C.2.1 dX0_isRule_26 rfl ?_
  exact hret _ _ _ hf (Or.inl rfl) dX0_isRule_27
def fz_isRule (σ : St) (x1 : Int32) : Int32 :=
  0
theorem fz_isRule_z {σ : St} {x1 : Int32} : zB (fz_isRule σ x1) := by
  unfold fz_isRule
  repeat' split
  all_goals first | exact Or.inl rfl | exact Or.inr rfl
theorem z_isRule_f {Q : Int32 → Prop} {σ : St} {x1 : Int32} (h : Q (fz_isRule σ x1)) : z_isRule σ x1 Q := by
  unfold fz_isRule at h
  unfold z_isRule
  exact h
theorem kz_isRule {p : Program} {l : Launch} {e : Env} {R : Room} {s : State} {m : MethodId} {args : Array Value} {below : List Frame} {meth : Method} {c : Code} {H : Heap} {locs : List Loc} {Z : State → Prop} {cc : ByteArray} {nL pc : Nat} {ls : Array Slot} {rest : List Value} {D : va_G} {ct : Ct} {ad : Nat → Nat} {σ : St} {x1 : Int32} (C : CallFix p m c cc nL s args lw_all RX0) (hw : gH D ct shZ ad s σ H locs) (hsz : ls.size = nL) (hrm : (rest.map fun v => v.category).sum ≤ 8) (hR : rm_z_isRule.frames + 1 ≤ R.frames ∧ 8 + (2 + 11) + rm_z_isRule.locals ≤ R.locals) (hdg : decode cc pc = .ok (.invokevirtual 301, 3)) (kk : W p l e R s m args below meth c H locs 0 0 Z (F0 m (pc + 3) ls (.int (fz_isRule σ x1) :: rest))) : W p l e R s m args below meth c H locs 0 0 Z (F0 m pc ls (.int x1 :: .ref (ad 0) :: rest)) :=
  g_callVRf (As := [.int x1]) (rest := rest) C hw rfl rfl (met_z_isRule l D ct ad hw.2.1 σ x1 (fun r => r = fz_isRule σ x1) (z_isRule_f rfl)) (cwV 1 C.2.2.2.2 (lw_V q840 q842 qs43 q200 q843) rfl rfl rfl (by decide +kernel) hR) rfl hsz rfl hrm ⟨Nat.zero_le _, Nat.zero_le _⟩ hdg kk
def z_isState (σ : St) (x1 : Int32) (Q : Int32 → Prop) : Prop :=
  Q 0
abbrev rm_z_isState : Room := { frames := 0, cells := 0, slots := 0, locals := 0 }
set_option maxHeartbeats 4000000 in
theorem met_z_isState (l : Launch) (D : va_G) (ct : Ct) (ad : Nat → Nat) (hJ : gJ shZ ad ct) (σ : St) (x1 : Int32) (Q : Int32 → Prop) (hf : z_isState σ x1 Q) : Met l yX0_isState (ws_ yX0_isState cX0_isState 2 (some .boolean)) rm_z_isState (va_Pc [.ref (ad 0), .int x1] (gP D ct shZ ad σ)) (gR rvI Q) 0 0 (fun _ => False) := by
  refine g_metRZ hJ (by decide) (Nat.le_of_ble_eq_true rfl) ?_
  intro p e s m args below meth c QQ ls H C hw hl hret
  replace hl : lv_has ls 2 [(0, .ref (ad 0)), (1, .int x1)] := hl
  unfold z_isState at hf
  refine lv_aload_n C.1 C.2.1 dX0_isState_0 rfl (lv_at hl 0 rfl) ?_
  refine zg_grammar C hw dX0_isState_1 ?_
  refine lv_ifnullN (tgt := 23) C.1 C.2.1 dX0_isState_4 (by decide) ?_
  refine lv_iconst (v := 0) C.1 C.2.1 dX0_isState_23 rfl ?_
  exact hret _ _ _ hf (Or.inl rfl) dX0_isState_24
def fz_isState (σ : St) (x1 : Int32) : Int32 :=
  0
theorem fz_isState_z {σ : St} {x1 : Int32} : zB (fz_isState σ x1) := by
  unfold fz_isState
  repeat' split
  all_goals first | exact Or.inl rfl | exact Or.inr rfl
theorem z_isState_f {Q : Int32 → Prop} {σ : St} {x1 : Int32} (h : Q (fz_isState σ x1)) : z_isState σ x1 Q := by
  unfold fz_isState at h
  unfold z_isState
  exact h
theorem kz_isState {p : Program} {l : Launch} {e : Env} {R : Room} {s : State} {m : MethodId} {args : Array Value} {below : List Frame} {meth : Method} {c : Code} {H : Heap} {locs : List Loc} {Z : State → Prop} {cc : ByteArray} {nL pc : Nat} {ls : Array Slot} {rest : List Value} {D : va_G} {ct : Ct} {ad : Nat → Nat} {σ : St} {x1 : Int32} (C : CallFix p m c cc nL s args lw_all RX0) (hw : gH D ct shZ ad s σ H locs) (hsz : ls.size = nL) (hrm : (rest.map fun v => v.category).sum ≤ 8) (hR : rm_z_isState.frames + 1 ≤ R.frames ∧ 8 + (2 + 11) + rm_z_isState.locals ≤ R.locals) (hdg : decode cc pc = .ok (.invokevirtual 413, 3)) (kk : W p l e R s m args below meth c H locs 0 0 Z (F0 m (pc + 3) ls (.int (fz_isState σ x1) :: rest))) : W p l e R s m args below meth c H locs 0 0 Z (F0 m pc ls (.int x1 :: .ref (ad 0) :: rest)) :=
  g_callVRf (As := [.int x1]) (rest := rest) C hw rfl rfl (met_z_isState l D ct ad hw.2.1 σ x1 (fun r => r = fz_isState σ x1) (z_isState_f rfl)) (cwV 1 C.2.2.2.2 (lw_V q879 q881 qs45 q200 q882) rfl rfl rfl (by decide +kernel) hR) rfl hsz rfl hrm ⟨Nat.zero_le _, Nat.zero_le _⟩ hdg kk
def z_isLevel (σ : St) (x1 : Int32) (Q : Int32 → Prop) : Prop :=
  Q 0
abbrev rm_z_isLevel : Room := { frames := 0, cells := 0, slots := 0, locals := 0 }
set_option maxHeartbeats 4000000 in
theorem met_z_isLevel (l : Launch) (D : va_G) (ct : Ct) (ad : Nat → Nat) (hJ : gJ shZ ad ct) (σ : St) (x1 : Int32) (Q : Int32 → Prop) (hf : z_isLevel σ x1 Q) : Met l yX0_isLevel (ws_ yX0_isLevel cX0_isLevel 2 (some .boolean)) rm_z_isLevel (va_Pc [.ref (ad 0), .int x1] (gP D ct shZ ad σ)) (gR rvI Q) 0 0 (fun _ => False) := by
  refine g_metRZ hJ (by decide) (Nat.le_of_ble_eq_true rfl) ?_
  intro p e s m args below meth c QQ ls H C hw hl hret
  replace hl : lv_has ls 2 [(0, .ref (ad 0)), (1, .int x1)] := hl
  unfold z_isLevel at hf
  refine lv_aload_n C.1 C.2.1 dX0_isLevel_0 rfl (lv_at hl 0 rfl) ?_
  refine zg_grammar C hw dX0_isLevel_1 ?_
  refine lv_ifnullN (tgt := 23) C.1 C.2.1 dX0_isLevel_4 (by decide) ?_
  refine lv_iconst (v := 0) C.1 C.2.1 dX0_isLevel_23 rfl ?_
  exact hret _ _ _ hf (Or.inl rfl) dX0_isLevel_24
def fz_isLevel (σ : St) (x1 : Int32) : Int32 :=
  0
theorem fz_isLevel_z {σ : St} {x1 : Int32} : zB (fz_isLevel σ x1) := by
  unfold fz_isLevel
  repeat' split
  all_goals first | exact Or.inl rfl | exact Or.inr rfl
theorem z_isLevel_f {Q : Int32 → Prop} {σ : St} {x1 : Int32} (h : Q (fz_isLevel σ x1)) : z_isLevel σ x1 Q := by
  unfold fz_isLevel at h
  unfold z_isLevel
  exact h
theorem kz_isLevel {p : Program} {l : Launch} {e : Env} {R : Room} {s : State} {m : MethodId} {args : Array Value} {below : List Frame} {meth : Method} {c : Code} {H : Heap} {locs : List Loc} {Z : State → Prop} {cc : ByteArray} {nL pc : Nat} {ls : Array Slot} {rest : List Value} {D : va_G} {ct : Ct} {ad : Nat → Nat} {σ : St} {x1 : Int32} (C : CallFix p m c cc nL s args lw_all RX0) (hw : gH D ct shZ ad s σ H locs) (hsz : ls.size = nL) (hrm : (rest.map fun v => v.category).sum ≤ 8) (hR : rm_z_isLevel.frames + 1 ≤ R.frames ∧ 8 + (2 + 11) + rm_z_isLevel.locals ≤ R.locals) (hdg : decode cc pc = .ok (.invokevirtual 522, 3)) (kk : W p l e R s m args below meth c H locs 0 0 Z (F0 m (pc + 3) ls (.int (fz_isLevel σ x1) :: rest))) : W p l e R s m args below meth c H locs 0 0 Z (F0 m pc ls (.int x1 :: .ref (ad 0) :: rest)) :=
  g_callVRf (As := [.int x1]) (rest := rest) C hw rfl rfl (met_z_isLevel l D ct ad hw.2.1 σ x1 (fun r => r = fz_isLevel σ x1) (z_isLevel_f rfl)) (cwV 1 C.2.2.2.2 (lw_V q1025 q1027 qs63 q200 q1028) rfl rfl rfl (by decide +kernel) hR) rfl hsz rfl hrm ⟨Nat.zero_le _, Nat.zero_le _⟩ hdg kk
def z_four_p3 (x1 : Int32) (Q : Unit → St → Prop) (K3 : St → Int32 → Prop) (σ : St) (x2 : Int32) : Prop :=
  ((x2 < 0 → Q () σ) ∧ (¬ x2 < 0 → (vp_in (σ.1 14) 400 ∧ (∀ s19 : St, s19 = s_A σ 13 (Int32.toNatClampNeg (σ.1 14)) (Int8.toInt32 (Int32.toInt8 (Int8.toInt32 (Int32.toInt8 (x1 >>> (x2 &&& 31)))))) → (∀ s27 : St, s27 = s_I s19 14 ((s19.1 14) + 1) → K3 s27 (x2 + (-8)))))))
def z_four (σ : St) (x1 : Int32) (Q : Unit → St → Prop) : Prop :=
  (Lp2 (z_four_p3 x1 Q) σ 24)
abbrev rm_z_four : Room := { frames := 0, cells := 0, slots := 0, locals := 0 }
set_option maxHeartbeats 4000000 in
theorem met_z_four (l : Launch) (D : va_G) (ct : Ct) (ad : Nat → Nat) (hJ : gJ shZ ad ct) (σ : St) (x1 : Int32) (Q : Unit → St → Prop) (hf : z_four σ x1 Q) : Met l yX0_four (ws_ yX0_four cX0_four 3 (none)) rm_z_four (va_Pc [.ref (ad 0), .int x1] (gP D ct shZ ad σ)) (gQ rvV D ct shZ ad Q) 0 0 (gA shZ ad) := by
  refine g_metV hJ (by decide) (Nat.le_of_ble_eq_true rfl) ?_
  intro p e s m args below meth c QQ ls C hw hl hret
  replace hl : lv_has ls 3 [(0, .ref (ad 0)), (1, .int x1)] := hl
  have B3 : ∀ (x1 : Int32) (K3 : St → Int32 → Prop) (_ : ∀ (σ : St) (H : Heap) (locs : List Loc) (x2 : Int32) (ls : Array Slot), K3 σ x2 → gH D ct shZ ad s σ H locs → lv_has ls 3 [(0, .ref (ad 0)), (1, .int x1), (2, .int x2)] → W p l e rm_z_four s m args below meth c H locs 0 0 QQ (F0 m 3 ls [])) (σ : St) (H : Heap) (locs : List Loc) (x2 : Int32) (ls : Array Slot), z_four_p3 x1 Q K3 σ x2 → gH D ct shZ ad s σ H locs → lv_has ls 3 [(0, .ref (ad 0)), (1, .int x1), (2, .int x2)] → W p l e rm_z_four s m args below meth c H locs 0 0 QQ (F0 m 3 ls []) := by
    intro x1 K3 hK3 σ H locs x2 ls hf hw hl
    unfold z_four_p3 at hf
    refine lv_iload_n C.1 C.2.1 dX0_four_3 rfl (lv_at hl 2 rfl) ?_
    refine lv_if_lt (tgt := 36) C.1 C.2.1 dX0_four_4 (by decide) (fun h4 => ?_) (fun h4 => ?_)
    · replace hf := hf.1 h4
      exact hret _ _ _ _ _ _ hf hw dX0_four_36
    · replace hf := hf.2 h4
      refine lv_aload_n C.1 C.2.1 dX0_four_7 rfl (lv_at hl 0 rfl) ?_
      refine zg_tape C hw dX0_four_8 ?_
      refine lv_aload_n C.1 C.2.1 dX0_four_11 rfl (lv_at hl 0 rfl) ?_
      refine zg_taped C hw dX0_four_12 ?_
      refine lv_iload_n C.1 C.2.1 dX0_four_15 rfl (lv_at hl 1 rfl) ?_
      refine lv_iload_n C.1 C.2.1 dX0_four_16 rfl (lv_at hl 2 rfl) ?_
      refine lv_ishr C.1 C.2.1 dX0_four_17 ?_
      refine lv_i2b C.1 C.2.1 dX0_four_18 rfl ?_
      obtain ⟨b19, hf⟩ := hf
      refine g_bast C shZ_sep hw 13 rfl b19 dX0_four_19 (fun s19 H locs e19 hw => ?_)
      replace hf := hf s19 e19
      refine lv_aload_n C.1 C.2.1 dX0_four_20 rfl (lv_at hl 0 rfl) ?_
      refine lv_dup C.1 C.2.1 dX0_four_21 rfl ?_
      refine zg_taped C hw dX0_four_22 ?_
      refine lv_iconst (v := 1) C.1 C.2.1 dX0_four_25 rfl ?_
      refine lv_iadd C.1 C.2.1 dX0_four_26 ?_
      refine zp_taped C hw dX0_four_27 (fun s27 H locs e27 hw => ?_)
      replace hf := hf s27 e27
      refine lv_iinc (v := (x2 + (-8))) (lv' := [(2, .int (x2 + (-8))), (0, .ref (ad 0)), (1, .int x1)]) C.1 C.2.1 dX0_four_30 hl (k := 2) rfl rfl (Nat.le_of_ble_eq_true rfl) rfl (fun ls hl => ?_)
      refine lv_goto (tgt := 3) C.1 C.2.1 dX0_four_33 (by decide) ?_
      exact hK3 _ _ _ _ _ hf hw (lv_sub hl [1, 2, 0] rfl)
  have P3 : ∀ (x1 : Int32) (n : Nat) (σ : St) (x2 : Int32) (ls : Array Slot) (H : Heap) (locs : List Loc), LL2 (z_four_p3 x1 Q) n σ x2 → gH D ct shZ ad s σ H locs → lv_has ls 3 [(0, .ref (ad 0)), (1, .int x1), (2, .int x2)] → W p l e rm_z_four s m args below meth c H locs 0 0 QQ (F0 m 3 ls []) := by
    intro x1 n
    induction n with
    | zero => intro σ x2 ls H locs hf; exact False.elim hf
    | succ n ih => intro σ x2 ls H locs hf hw hl; exact B3 x1 (LL2 _ n) (fun σ H locs x2 ls hf hw hl => ih σ x2 ls H locs hf hw hl) σ H locs x2 ls hf hw hl
  unfold z_four at hf
  obtain ⟨H, hH⟩ : ∃ q, q = s.heap := ⟨_, rfl⟩
  obtain ⟨locs, hL⟩ : ∃ q : List Loc, q = [] := ⟨_, rfl⟩
  rw [← hH, ← hL] at hw ⊢
  refine lv_bipush (v := 24) C.1 C.2.1 dX0_four_0 rfl ?_
  refine lv_istore_n (lv' := [(2, .int 24), (0, .ref (ad 0)), (1, .int x1)]) C.1 C.2.1 dX0_four_2 rfl hl (Nat.le_of_ble_eq_true rfl) rfl (fun ls hl => ?_)
  obtain ⟨n, hf⟩ := hf
  exact P3 _ n _ _ _ _ _ hf hw (lv_sub hl [1, 2, 0] rfl)
theorem kz_four {p : Program} {l : Launch} {e : Env} {R : Room} {s : State} {m : MethodId} {args : Array Value} {below : List Frame} {meth : Method} {c : Code} {H : Heap} {locs : List Loc} {Z : State → Prop} {cc : ByteArray} {nL pc : Nat} {ls : Array Slot} {rest : List Value} {D : va_G} {ct : Ct} {ad : Nat → Nat} {σ : St} {x1 : Int32} {Qp : Unit → St → Prop} (C : CallFix p m c cc nL s args lw_all RX0) (hw : gH D ct shZ ad s σ H locs) (hsz : ls.size = nL) (hrm : (rest.map fun v => v.category).sum ≤ 8) (hR : rm_z_four.frames + 1 ≤ R.frames ∧ 8 + (3 + 11) + rm_z_four.locals ≤ R.locals) (hdg : decode cc pc = .ok (.invokevirtual 254, 3)) (hf : z_four σ x1 Qp) (kk : ∀ (r : Unit) (σ1 : St) (H1 : Heap) (locs1 : List Loc), Qp r σ1 → gH D ct shZ ad s σ1 H1 locs1 → W p l e R s m args below meth c H1 locs1 0 0 Z (F0 m (pc + 3) ls (rest))) : W p l e R s m args below meth c H locs 0 0 Z (F0 m pc ls (.int x1 :: .ref (ad 0) :: rest)) :=
  g_callV (As := [.int x1]) (rest := rest) C hw rfl rfl (met_z_four l D ct ad hw.2.1 σ x1 Qp hf) (cwV 1 C.2.2.2.2 (lw_V q616 q618 qs14 q200 q619) rfl rfl rfl (by decide +kernel) hR) rfl hsz rfl hrm ⟨Nat.zero_le _, Nat.zero_le _⟩ hdg kk
def z_facts (σ : St) (x1 : Int32) (Q : Int32 → Prop) : Prop :=
  Q (-1)
abbrev rm_z_facts : Room := { frames := 0, cells := 0, slots := 0, locals := 0 }
set_option maxHeartbeats 4000000 in
theorem met_z_facts (l : Launch) (D : va_G) (ct : Ct) (ad : Nat → Nat) (hJ : gJ shZ ad ct) (σ : St) (x1 : Int32) (Q : Int32 → Prop) (hf : z_facts σ x1 Q) : Met l yX0_facts (ws_ yX0_facts cX0_facts 2 (some .int)) rm_z_facts (va_Pc [.ref (ad 0), .int x1] (gP D ct shZ ad σ)) (gR rvI Q) 0 0 (fun _ => False) := by
  refine g_metRI hJ (by decide) (Nat.le_of_ble_eq_true rfl) ?_
  intro p e s m args below meth c QQ ls H C hw hl hret
  replace hl : lv_has ls 2 [(0, .ref (ad 0)), (1, .int x1)] := hl
  unfold z_facts at hf
  refine lv_aload_n C.1 C.2.1 dX0_facts_0 rfl (lv_at hl 0 rfl) ?_
  refine zg_grammar C hw dX0_facts_1 ?_
  refine lv_ifnonnullN C.1 C.2.1 dX0_facts_4 ?_
  refine lv_iconst (v := (-1)) C.1 C.2.1 dX0_facts_7 rfl ?_
  exact hret _ _ _ hf dX0_facts_8
def fz_facts (σ : St) (x1 : Int32) : Int32 :=
  (-1)
theorem z_facts_f {Q : Int32 → Prop} {σ : St} {x1 : Int32} (h : Q (fz_facts σ x1)) : z_facts σ x1 Q := by
  unfold fz_facts at h
  unfold z_facts
  exact h
def z_states (σ : St) (Q : Int32 → Prop) : Prop :=
  Q (-1)
abbrev rm_z_states : Room := { frames := 0, cells := 0, slots := 0, locals := 0 }
set_option maxHeartbeats 4000000 in
theorem met_z_states (l : Launch) (D : va_G) (ct : Ct) (ad : Nat → Nat) (hJ : gJ shZ ad ct) (σ : St) (Q : Int32 → Prop) (hf : z_states σ Q) : Met l yX0_states (ws_ yX0_states cX0_states 1 (some .int)) rm_z_states (va_Pc [.ref (ad 0)] (gP D ct shZ ad σ)) (gR rvI Q) 0 0 (fun _ => False) := by
  refine g_metRI hJ (by decide) (Nat.le_of_ble_eq_true rfl) ?_
  intro p e s m args below meth c QQ ls H C hw hl hret
  replace hl : lv_has ls 1 [(0, .ref (ad 0))] := hl
  unfold z_states at hf
  refine lv_aload_n C.1 C.2.1 dX0_states_0 rfl (lv_at hl 0 rfl) ?_
  refine zg_grammar C hw dX0_states_1 ?_
  refine lv_ifnonnullN C.1 C.2.1 dX0_states_4 ?_
  refine lv_iconst (v := (-1)) C.1 C.2.1 dX0_states_7 rfl ?_
  refine lv_goto (tgt := 15) C.1 C.2.1 dX0_states_8 (by decide) ?_
  exact hret _ _ _ hf dX0_states_15
def fz_states (σ : St) : Int32 :=
  (-1)
theorem z_states_f {Q : Int32 → Prop} {σ : St} (h : Q (fz_states σ)) : z_states σ Q := by
  unfold fz_states at h
  unfold z_states
  exact h
def z_clashes (σ : St) (Q : Int32 → Prop) : Prop :=
  Q (-1)
abbrev rm_z_clashes : Room := { frames := 0, cells := 0, slots := 0, locals := 0 }
set_option maxHeartbeats 4000000 in
theorem met_z_clashes (l : Launch) (D : va_G) (ct : Ct) (ad : Nat → Nat) (hJ : gJ shZ ad ct) (σ : St) (Q : Int32 → Prop) (hf : z_clashes σ Q) : Met l yX0_clashes (ws_ yX0_clashes cX0_clashes 3 (some .int)) rm_z_clashes (va_Pc [.ref (ad 0)] (gP D ct shZ ad σ)) (gR rvI Q) 0 0 (fun _ => False) := by
  refine g_metRI hJ (by decide) (Nat.le_of_ble_eq_true rfl) ?_
  intro p e s m args below meth c QQ ls H C hw hl hret
  replace hl : lv_has ls 3 [(0, .ref (ad 0))] := hl
  unfold z_clashes at hf
  refine lv_aload_n C.1 C.2.1 dX0_clashes_0 rfl (lv_at hl 0 rfl) ?_
  refine zg_grammar C hw dX0_clashes_1 ?_
  refine lv_ifnonnullN C.1 C.2.1 dX0_clashes_4 ?_
  refine lv_iconst (v := (-1)) C.1 C.2.1 dX0_clashes_7 rfl ?_
  exact hret _ _ _ hf dX0_clashes_8
def z_undo (σ : St) (Q : Int32 → St → Prop) : Prop :=
  (((σ.1 9) = 0 → Q (-2) σ) ∧ (¬ (σ.1 9) = 0 → (∀ s17 : St, s17 = s_I σ 9 ((σ.1 9) - 1) → False)))
abbrev rm_z_undo : Room := { frames := 0, cells := 0, slots := 0, locals := 0 }
set_option maxHeartbeats 4000000 in
theorem met_z_undo (l : Launch) (D : va_G) (ct : Ct) (ad : Nat → Nat) (hJ : gJ shZ ad ct) (σ : St) (Q : Int32 → St → Prop) (hf : z_undo σ Q) : Met l yX0_undo (ws_ yX0_undo cX0_undo 1 (some .int)) rm_z_undo (va_Pc [.ref (ad 0)] (gP D ct shZ ad σ)) (gQ rvI D ct shZ ad Q) 0 0 (gA shZ ad) := by
  refine g_metI hJ (by decide) (Nat.le_of_ble_eq_true rfl) ?_
  intro p e s m args below meth c QQ ls C hw hl hret
  replace hl : lv_has ls 1 [(0, .ref (ad 0))] := hl
  unfold z_undo at hf
  obtain ⟨H, hH⟩ : ∃ q, q = s.heap := ⟨_, rfl⟩
  obtain ⟨locs, hL⟩ : ∃ q : List Loc, q = [] := ⟨_, rfl⟩
  rw [← hH, ← hL] at hw ⊢
  refine lv_aload_n C.1 C.2.1 dX0_undo_0 rfl (lv_at hl 0 rfl) ?_
  refine zg_stepMany C hw dX0_undo_1 ?_
  refine lv_if_ne (tgt := 10) C.1 C.2.1 dX0_undo_4 (by decide) (fun h4 => ?_) (fun h4 => ?_)
  · replace hf := hf.2 h4
    refine lv_aload_n C.1 C.2.1 dX0_undo_10 rfl (lv_at hl 0 rfl) ?_
    refine lv_dup C.1 C.2.1 dX0_undo_11 rfl ?_
    refine zg_stepMany C hw dX0_undo_12 ?_
    refine lv_iconst (v := 1) C.1 C.2.1 dX0_undo_15 rfl ?_
    refine lv_isub C.1 C.2.1 dX0_undo_16 ?_
    refine zp_stepMany C hw dX0_undo_17 (fun s17 H locs e17 hw => ?_)
    replace hf := hf s17 e17
    refine lv_aload_n C.1 C.2.1 dX0_undo_20 rfl (lv_at hl 0 rfl) ?_
    refine zg_acts C hw dX0_undo_21 ?_
    refine lv_aload_n C.1 C.2.1 dX0_undo_24 rfl (lv_at hl 0 rfl) ?_
    refine zg_stepMany C hw dX0_undo_25 ?_
    exact False.elim hf
  · replace hf := hf.1 h4
    refine lv_bipush (v := (-2)) C.1 C.2.1 dX0_undo_7 rfl ?_
    exact hret _ _ _ _ _ _ hf hw dX0_undo_9
def z_drop (σ : St) (Q : Int32 → Prop) : Prop :=
  (((σ.1 4) = 0 → Q (-1)) ∧ (¬ (σ.1 4) = 0 → (vp_in ((σ.1 4) - 1) 12 ∧ False)))
abbrev rm_z_drop : Room := { frames := 0, cells := 0, slots := 0, locals := 0 }
set_option maxHeartbeats 4000000 in
theorem met_z_drop (l : Launch) (D : va_G) (ct : Ct) (ad : Nat → Nat) (hJ : gJ shZ ad ct) (σ : St) (Q : Int32 → Prop) (hf : z_drop σ Q) : Met l yX0_drop (ws_ yX0_drop cX0_drop 2 (some .int)) rm_z_drop (va_Pc [.ref (ad 0)] (gP D ct shZ ad σ)) (gR rvI Q) 0 0 (fun _ => False) := by
  refine g_metRI hJ (by decide) (Nat.le_of_ble_eq_true rfl) ?_
  intro p e s m args below meth c QQ ls H C hw hl hret
  replace hl : lv_has ls 2 [(0, .ref (ad 0))] := hl
  unfold z_drop at hf
  refine lv_aload_n C.1 C.2.1 dX0_drop_0 rfl (lv_at hl 0 rfl) ?_
  refine zg_textMany C hw dX0_drop_1 ?_
  refine lv_if_ne (tgt := 9) C.1 C.2.1 dX0_drop_4 (by decide) (fun h4 => ?_) (fun h4 => ?_)
  · replace hf := hf.2 h4
    refine lv_aload_n C.1 C.2.1 dX0_drop_9 rfl (lv_at hl 0 rfl) ?_
    refine zg_text C hw dX0_drop_10 ?_
    refine lv_aload_n C.1 C.2.1 dX0_drop_13 rfl (lv_at hl 0 rfl) ?_
    refine zg_textMany C hw dX0_drop_14 ?_
    refine lv_iconst (v := 1) C.1 C.2.1 dX0_drop_17 rfl ?_
    refine lv_isub C.1 C.2.1 dX0_drop_18 ?_
    obtain ⟨b19, hf⟩ := hf
    refine g_iald C hw 3 rfl b19 dX0_drop_19 ?_
    refine lv_istore_n (lv' := [(1, .int (gI σ 3 ((σ.1 4) - 1))), (0, .ref (ad 0))]) C.1 C.2.1 dX0_drop_20 rfl hl (Nat.le_of_ble_eq_true rfl) rfl (fun ls hl => ?_)
    refine lv_aload_n C.1 C.2.1 dX0_drop_21 rfl (lv_at hl 1 rfl) ?_
    refine lv_aload_n C.1 C.2.1 dX0_drop_22 rfl (lv_at hl 1 rfl) ?_
    refine lv_iload_n C.1 C.2.1 dX0_drop_23 rfl (lv_at hl 0 rfl) ?_
    exact False.elim hf
  · replace hf := hf.1 h4
    refine lv_iconst (v := (-1)) C.1 C.2.1 dX0_drop_7 rfl ?_
    exact hret _ _ _ hf dX0_drop_8
def z_letter (σ : St) (x1 : Int32) (Q : Int32 → Prop) : Prop :=
  ((x1 < 0 → Q (-1)) ∧ (¬ x1 < 0 → (((σ.1 4) ≤ x1 → Q (-1)) ∧ (¬ (σ.1 4) ≤ x1 → (vp_in x1 12 ∧ Q (gI σ 3 x1))))))
abbrev rm_z_letter : Room := { frames := 0, cells := 0, slots := 0, locals := 0 }
set_option maxHeartbeats 4000000 in
theorem met_z_letter (l : Launch) (D : va_G) (ct : Ct) (ad : Nat → Nat) (hJ : gJ shZ ad ct) (σ : St) (x1 : Int32) (Q : Int32 → Prop) (hf : z_letter σ x1 Q) : Met l yX0_letter (ws_ yX0_letter cX0_letter 2 (some .int)) rm_z_letter (va_Pc [.ref (ad 0), .int x1] (gP D ct shZ ad σ)) (gR rvI Q) 0 0 (fun _ => False) := by
  refine g_metRI hJ (by decide) (Nat.le_of_ble_eq_true rfl) ?_
  intro p e s m args below meth c QQ ls H C hw hl hret
  replace hl : lv_has ls 2 [(0, .ref (ad 0)), (1, .int x1)] := hl
  unfold z_letter at hf
  refine lv_iload_n C.1 C.2.1 dX0_letter_0 rfl (lv_at hl 1 rfl) ?_
  refine lv_if_lt (tgt := 21) C.1 C.2.1 dX0_letter_1 (by decide) (fun h1 => ?_) (fun h1 => ?_)
  · replace hf := hf.1 h1
    refine lv_iconst (v := (-1)) C.1 C.2.1 dX0_letter_21 rfl ?_
    exact hret _ _ _ hf dX0_letter_22
  · replace hf := hf.2 h1
    refine lv_iload_n C.1 C.2.1 dX0_letter_4 rfl (lv_at hl 1 rfl) ?_
    refine lv_aload_n C.1 C.2.1 dX0_letter_5 rfl (lv_at hl 0 rfl) ?_
    refine zg_textMany C hw dX0_letter_6 ?_
    refine lv_icmp_ge (tgt := 21) C.1 C.2.1 dX0_letter_9 (by decide) (fun h9 => ?_) (fun h9 => ?_)
    · replace hf := hf.1 h9
      refine lv_iconst (v := (-1)) C.1 C.2.1 dX0_letter_21 rfl ?_
      exact hret _ _ _ hf dX0_letter_22
    · replace hf := hf.2 h9
      refine lv_aload_n C.1 C.2.1 dX0_letter_12 rfl (lv_at hl 0 rfl) ?_
      refine zg_text C hw dX0_letter_13 ?_
      refine lv_iload_n C.1 C.2.1 dX0_letter_16 rfl (lv_at hl 1 rfl) ?_
      obtain ⟨b17, hf⟩ := hf
      refine g_iald C hw 3 rfl b17 dX0_letter_17 ?_
      refine lv_goto (tgt := 22) C.1 C.2.1 dX0_letter_18 (by decide) ?_
      exact hret _ _ _ hf dX0_letter_22
def z_smallest (σ : St) (Q : Int32 → Prop) : Prop :=
  Q (-1)
abbrev rm_z_smallest : Room := { frames := 0, cells := 0, slots := 0, locals := 0 }
set_option maxHeartbeats 4000000 in
theorem met_z_smallest (l : Launch) (D : va_G) (ct : Ct) (ad : Nat → Nat) (hJ : gJ shZ ad ct) (σ : St) (Q : Int32 → Prop) (hf : z_smallest σ Q) : Met l yX0_smallest (ws_ yX0_smallest cX0_smallest 1 (some .int)) rm_z_smallest (va_Pc [.ref (ad 0)] (gP D ct shZ ad σ)) (gR rvI Q) 0 0 (fun _ => False) := by
  refine g_metRI hJ (by decide) (Nat.le_of_ble_eq_true rfl) ?_
  intro p e s m args below meth c QQ ls H C hw hl hret
  replace hl : lv_has ls 1 [(0, .ref (ad 0))] := hl
  unfold z_smallest at hf
  refine lv_aload_n C.1 C.2.1 dX0_smallest_0 rfl (lv_at hl 0 rfl) ?_
  refine zg_grammar C hw dX0_smallest_1 ?_
  refine lv_ifnonnullN C.1 C.2.1 dX0_smallest_4 ?_
  refine lv_iconst (v := (-1)) C.1 C.2.1 dX0_smallest_7 rfl ?_
  exact hret _ _ _ hf dX0_smallest_8
def fz_smallest (σ : St) : Int32 :=
  (-1)
theorem z_smallest_f {Q : Int32 → Prop} {σ : St} (h : Q (fz_smallest σ)) : z_smallest σ Q := by
  unfold fz_smallest at h
  unfold z_smallest
  exact h
def z_mend (σ : St) (Q : Int32 → Prop) : Prop :=
  Q (-1)
abbrev rm_z_mend : Room := { frames := 0, cells := 0, slots := 0, locals := 0 }
set_option maxHeartbeats 4000000 in
theorem met_z_mend (l : Launch) (D : va_G) (ct : Ct) (ad : Nat → Nat) (hJ : gJ shZ ad ct) (σ : St) (Q : Int32 → Prop) (hf : z_mend σ Q) : Met l yX0_mend (ws_ yX0_mend cX0_mend 2 (some .int)) rm_z_mend (va_Pc [.ref (ad 0)] (gP D ct shZ ad σ)) (gR rvI Q) 0 0 (fun _ => False) := by
  refine g_metRI hJ (by decide) (Nat.le_of_ble_eq_true rfl) ?_
  intro p e s m args below meth c QQ ls H C hw hl hret
  replace hl : lv_has ls 2 [(0, .ref (ad 0))] := hl
  unfold z_mend at hf
  refine lv_aload_n C.1 C.2.1 dX0_mend_0 rfl (lv_at hl 0 rfl) ?_
  refine zg_grammar C hw dX0_mend_1 ?_
  refine lv_ifnonnullN C.1 C.2.1 dX0_mend_4 ?_
  refine lv_iconst (v := (-1)) C.1 C.2.1 dX0_mend_7 rfl ?_
  exact hret _ _ _ hf dX0_mend_8
def fz_mend (σ : St) : Int32 :=
  (-1)
theorem z_mend_f {Q : Int32 → Prop} {σ : St} (h : Q (fz_mend σ)) : z_mend σ Q := by
  unfold fz_mend at h
  unfold z_mend
  exact h
def z_seed (σ : St) (x1 : Int32) (Q : Int32 → St → Prop) : Prop :=
  ((0 ≤ x1 → (∀ s13 : St, s13 = s_I σ 10 x1 → Q (σ.1 10) s13)) ∧ (¬ 0 ≤ x1 → Q (-1) σ))
abbrev rm_z_seed : Room := { frames := 0, cells := 0, slots := 0, locals := 0 }
set_option maxHeartbeats 4000000 in
theorem met_z_seed (l : Launch) (D : va_G) (ct : Ct) (ad : Nat → Nat) (hJ : gJ shZ ad ct) (σ : St) (x1 : Int32) (Q : Int32 → St → Prop) (hf : z_seed σ x1 Q) : Met l yX0_seed (ws_ yX0_seed cX0_seed 3 (some .int)) rm_z_seed (va_Pc [.ref (ad 0), .int x1] (gP D ct shZ ad σ)) (gQ rvI D ct shZ ad Q) 0 0 (gA shZ ad) := by
  refine g_metI hJ (by decide) (Nat.le_of_ble_eq_true rfl) ?_
  intro p e s m args below meth c QQ ls C hw hl hret
  replace hl : lv_has ls 3 [(0, .ref (ad 0)), (1, .int x1)] := hl
  unfold z_seed at hf
  obtain ⟨H, hH⟩ : ∃ q, q = s.heap := ⟨_, rfl⟩
  obtain ⟨locs, hL⟩ : ∃ q : List Loc, q = [] := ⟨_, rfl⟩
  rw [← hH, ← hL] at hw ⊢
  refine lv_iload_n C.1 C.2.1 dX0_seed_0 rfl (lv_at hl 1 rfl) ?_
  refine lv_if_ge (tgt := 6) C.1 C.2.1 dX0_seed_1 (by decide) (fun h1 => ?_) (fun h1 => ?_)
  · replace hf := hf.1 h1
    refine lv_aload_n C.1 C.2.1 dX0_seed_6 rfl (lv_at hl 0 rfl) ?_
    refine zg_x C hw dX0_seed_7 ?_
    refine lv_istore_n (lv' := [(2, .int (σ.1 10)), (0, .ref (ad 0)), (1, .int x1)]) C.1 C.2.1 dX0_seed_10 rfl hl (Nat.le_of_ble_eq_true rfl) rfl (fun ls hl => ?_)
    refine lv_aload_n C.1 C.2.1 dX0_seed_11 rfl (lv_at hl 1 rfl) ?_
    refine lv_iload_n C.1 C.2.1 dX0_seed_12 rfl (lv_at hl 2 rfl) ?_
    refine zp_x C hw dX0_seed_13 (fun s13 H locs e13 hw => ?_)
    replace hf := hf s13 e13
    refine lv_iload_n C.1 C.2.1 dX0_seed_16 rfl (lv_at hl 0 rfl) ?_
    exact hret _ _ _ _ _ _ hf hw dX0_seed_17
  · replace hf := hf.2 h1
    refine lv_iconst (v := (-1)) C.1 C.2.1 dX0_seed_4 rfl ?_
    exact hret _ _ _ _ _ _ hf hw dX0_seed_5
def z_count (σ : St) (x1 : Int32) (Q : Int32 → Prop) : Prop :=
  ((x1 = 0 → Q 0) ∧ (¬ x1 = 0 → ((x1 = 1 → Q (-1)) ∧ (¬ x1 = 1 → ((x1 = 2 → Q (σ.1 4)) ∧ (¬ x1 = 2 → ((x1 = 3 → Q (σ.1 2)) ∧ (¬ x1 = 3 → ((x1 = 4 → Q (σ.1 7)) ∧ (¬ x1 = 4 → ((x1 = 5 → Q (σ.1 5)) ∧ (¬ x1 = 5 → ((x1 = 6 → Q (σ.1 9)) ∧ (¬ x1 = 6 → ((x1 = 7 → Q (σ.1 10)) ∧ (¬ x1 = 7 → ((x1 = 8 → Q (σ.1 14)) ∧ (¬ x1 = 8 → Q (-1)))))))))))))))))))
abbrev rm_z_count : Room := { frames := 0, cells := 0, slots := 0, locals := 0 }
set_option maxHeartbeats 4000000 in
theorem met_z_count (l : Launch) (D : va_G) (ct : Ct) (ad : Nat → Nat) (hJ : gJ shZ ad ct) (σ : St) (x1 : Int32) (Q : Int32 → Prop) (hf : z_count σ x1 Q) : Met l yX0_count (ws_ yX0_count cX0_count 2 (some .int)) rm_z_count (va_Pc [.ref (ad 0), .int x1] (gP D ct shZ ad σ)) (gR rvI Q) 0 0 (fun _ => False) := by
  refine g_metRI hJ (by decide) (Nat.le_of_ble_eq_true rfl) ?_
  intro p e s m args below meth c QQ ls H C hw hl hret
  replace hl : lv_has ls 2 [(0, .ref (ad 0)), (1, .int x1)] := hl
  unfold z_count at hf
  refine lv_iload_n C.1 C.2.1 dX0_count_0 rfl (lv_at hl 1 rfl) ?_
  by_cases h1_0 : x1 = 0
  · replace hf := hf.1 h1_0
    refine lv_tableIn (tgt := 52) C.1 C.2.1 dX0_count_1 (by rw [h1_0]; decide) (by rw [h1_0]; decide) (by rw [h1_0]; rfl) (by decide) ?_
    refine lv_aload_n C.1 C.2.1 dX0_count_52 rfl (lv_at hl 0 rfl) ?_
    refine zg_grammar C hw dX0_count_53 ?_
    refine lv_ifnonnullN C.1 C.2.1 dX0_count_56 ?_
    refine lv_iconst (v := 0) C.1 C.2.1 dX0_count_59 rfl ?_
    refine lv_goto (tgt := 70) C.1 C.2.1 dX0_count_60 (by decide) ?_
    exact hret _ _ _ hf dX0_count_70
  · replace hf := hf.2 h1_0
    by_cases h1_1 : x1 = 1
    · replace hf := hf.1 h1_1
      refine lv_tableIn (tgt := 71) C.1 C.2.1 dX0_count_1 (by rw [h1_1]; decide) (by rw [h1_1]; decide) (by rw [h1_1]; rfl) (by decide) ?_
      refine lv_aload_n C.1 C.2.1 dX0_count_71 rfl (lv_at hl 0 rfl) ?_
      refine zg_grammar C hw dX0_count_72 ?_
      refine lv_ifnonnullN C.1 C.2.1 dX0_count_75 ?_
      refine lv_iconst (v := (-1)) C.1 C.2.1 dX0_count_78 rfl ?_
      refine lv_goto (tgt := 89) C.1 C.2.1 dX0_count_79 (by decide) ?_
      exact hret _ _ _ hf dX0_count_89
    · replace hf := hf.2 h1_1
      by_cases h1_2 : x1 = 2
      · replace hf := hf.1 h1_2
        refine lv_tableIn (tgt := 90) C.1 C.2.1 dX0_count_1 (by rw [h1_2]; decide) (by rw [h1_2]; decide) (by rw [h1_2]; rfl) (by decide) ?_
        refine lv_aload_n C.1 C.2.1 dX0_count_90 rfl (lv_at hl 0 rfl) ?_
        refine zg_textMany C hw dX0_count_91 ?_
        exact hret _ _ _ hf dX0_count_94
      · replace hf := hf.2 h1_2
        by_cases h1_3 : x1 = 3
        · replace hf := hf.1 h1_3
          refine lv_tableIn (tgt := 95) C.1 C.2.1 dX0_count_1 (by rw [h1_3]; decide) (by rw [h1_3]; decide) (by rw [h1_3]; rfl) (by decide) ?_
          refine lv_aload_n C.1 C.2.1 dX0_count_95 rfl (lv_at hl 0 rfl) ?_
          refine zg_struck C hw dX0_count_96 ?_
          exact hret _ _ _ hf dX0_count_99
        · replace hf := hf.2 h1_3
          by_cases h1_4 : x1 = 4
          · replace hf := hf.1 h1_4
            refine lv_tableIn (tgt := 100) C.1 C.2.1 dX0_count_1 (by rw [h1_4]; decide) (by rw [h1_4]; decide) (by rw [h1_4]; rfl) (by decide) ?_
            refine lv_aload_n C.1 C.2.1 dX0_count_100 rfl (lv_at hl 0 rfl) ?_
            refine zg_banMany C hw dX0_count_101 ?_
            exact hret _ _ _ hf dX0_count_104
          · replace hf := hf.2 h1_4
            by_cases h1_5 : x1 = 5
            · replace hf := hf.1 h1_5
              refine lv_tableIn (tgt := 105) C.1 C.2.1 dX0_count_1 (by rw [h1_5]; decide) (by rw [h1_5]; decide) (by rw [h1_5]; rfl) (by decide) ?_
              refine lv_aload_n C.1 C.2.1 dX0_count_105 rfl (lv_at hl 0 rfl) ?_
              refine zg_filters C hw dX0_count_106 ?_
              exact hret _ _ _ hf dX0_count_109
            · replace hf := hf.2 h1_5
              by_cases h1_6 : x1 = 6
              · replace hf := hf.1 h1_6
                refine lv_tableIn (tgt := 110) C.1 C.2.1 dX0_count_1 (by rw [h1_6]; decide) (by rw [h1_6]; decide) (by rw [h1_6]; rfl) (by decide) ?_
                refine lv_aload_n C.1 C.2.1 dX0_count_110 rfl (lv_at hl 0 rfl) ?_
                refine zg_stepMany C hw dX0_count_111 ?_
                exact hret _ _ _ hf dX0_count_114
              · replace hf := hf.2 h1_6
                by_cases h1_7 : x1 = 7
                · replace hf := hf.1 h1_7
                  refine lv_tableIn (tgt := 115) C.1 C.2.1 dX0_count_1 (by rw [h1_7]; decide) (by rw [h1_7]; decide) (by rw [h1_7]; rfl) (by decide) ?_
                  refine lv_aload_n C.1 C.2.1 dX0_count_115 rfl (lv_at hl 0 rfl) ?_
                  refine zg_x C hw dX0_count_116 ?_
                  exact hret _ _ _ hf dX0_count_119
                · replace hf := hf.2 h1_7
                  by_cases h1_8 : x1 = 8
                  · replace hf := hf.1 h1_8
                    refine lv_tableIn (tgt := 120) C.1 C.2.1 dX0_count_1 (by rw [h1_8]; decide) (by rw [h1_8]; decide) (by rw [h1_8]; rfl) (by decide) ?_
                    refine lv_aload_n C.1 C.2.1 dX0_count_120 rfl (lv_at hl 0 rfl) ?_
                    refine zg_taped C hw dX0_count_121 ?_
                    exact hret _ _ _ hf dX0_count_124
                  · replace hf := hf.2 h1_8
                    refine lv_tableOut (tgt := 125) C.1 C.2.1 dX0_count_1 (tb_out_0_8 h1_0 h1_1 h1_2 h1_3 h1_4 h1_5 h1_6 h1_7 h1_8) (by decide) ?_
                    refine lv_iconst (v := (-1)) C.1 C.2.1 dX0_count_125 rfl ?_
                    exact hret _ _ _ hf dX0_count_126
def fz_count (σ : St) (x1 : Int32) : Int32 :=
  (if x1 = 0 then 0 else (if x1 = 1 then (-1) else (if x1 = 2 then (σ.1 4) else (if x1 = 3 then (σ.1 2) else (if x1 = 4 then (σ.1 7) else (if x1 = 5 then (σ.1 5) else (if x1 = 6 then (σ.1 9) else (if x1 = 7 then (σ.1 10) else (if x1 = 8 then (σ.1 14) else (-1))))))))))
theorem z_count_f {Q : Int32 → Prop} {σ : St} {x1 : Int32} (h : Q (fz_count σ x1)) : z_count σ x1 Q := by
  unfold fz_count at h
  unfold z_count
  refine ⟨fun c => ?_, fun c => ?_⟩
  · rw [if_pos c] at h
    exact h
  · rw [if_neg c] at h
    refine ⟨fun c => ?_, fun c => ?_⟩
    · rw [if_pos c] at h
      exact h
    · rw [if_neg c] at h
      refine ⟨fun c => ?_, fun c => ?_⟩
      · rw [if_pos c] at h
        exact h
      · rw [if_neg c] at h
        refine ⟨fun c => ?_, fun c => ?_⟩
        · rw [if_pos c] at h
          exact h
        · rw [if_neg c] at h
          refine ⟨fun c => ?_, fun c => ?_⟩
          · rw [if_pos c] at h
            exact h
          · rw [if_neg c] at h
            refine ⟨fun c => ?_, fun c => ?_⟩
            · rw [if_pos c] at h
              exact h
            · rw [if_neg c] at h
              refine ⟨fun c => ?_, fun c => ?_⟩
              · rw [if_pos c] at h
                exact h
              · rw [if_neg c] at h
                refine ⟨fun c => ?_, fun c => ?_⟩
                · rw [if_pos c] at h
                  exact h
                · rw [if_neg c] at h
                  refine ⟨fun c => ?_, fun c => ?_⟩
                  · rw [if_pos c] at h
                    exact h
                  · rw [if_neg c] at h
                    exact h
def z_end (σ : St) (x1 : Int32) (Q : Int32 → St → Prop) : Prop :=
  ((x1 < 0 → Q (-1) σ) ∧ (¬ x1 < 0 → ((x1 ≤ (σ.1 14) → (∀ s16 : St, s16 = s_I σ 14 x1 → Q x1 s16)) ∧ (¬ x1 ≤ (σ.1 14) → Q (-1) σ))))
abbrev rm_z_end : Room := { frames := 0, cells := 0, slots := 0, locals := 0 }
set_option maxHeartbeats 4000000 in
theorem met_z_end (l : Launch) (D : va_G) (ct : Ct) (ad : Nat → Nat) (hJ : gJ shZ ad ct) (σ : St) (x1 : Int32) (Q : Int32 → St → Prop) (hf : z_end σ x1 Q) : Met l yX0_end (ws_ yX0_end cX0_end 2 (some .int)) rm_z_end (va_Pc [.ref (ad 0), .int x1] (gP D ct shZ ad σ)) (gQ rvI D ct shZ ad Q) 0 0 (gA shZ ad) := by
  refine g_metI hJ (by decide) (Nat.le_of_ble_eq_true rfl) ?_
  intro p e s m args below meth c QQ ls C hw hl hret
  replace hl : lv_has ls 2 [(0, .ref (ad 0)), (1, .int x1)] := hl
  unfold z_end at hf
  obtain ⟨H, hH⟩ : ∃ q, q = s.heap := ⟨_, rfl⟩
  obtain ⟨locs, hL⟩ : ∃ q : List Loc, q = [] := ⟨_, rfl⟩
  rw [← hH, ← hL] at hw ⊢
  refine lv_iload_n C.1 C.2.1 dX0_end_0 rfl (lv_at hl 1 rfl) ?_
  refine lv_if_lt (tgt := 12) C.1 C.2.1 dX0_end_1 (by decide) (fun h1 => ?_) (fun h1 => ?_)
  · replace hf := hf.1 h1
    refine lv_iconst (v := (-1)) C.1 C.2.1 dX0_end_12 rfl ?_
    exact hret _ _ _ _ _ _ hf hw dX0_end_13
  · replace hf := hf.2 h1
    refine lv_iload_n C.1 C.2.1 dX0_end_4 rfl (lv_at hl 1 rfl) ?_
    refine lv_aload_n C.1 C.2.1 dX0_end_5 rfl (lv_at hl 0 rfl) ?_
    refine zg_taped C hw dX0_end_6 ?_
    refine lv_icmp_le (tgt := 14) C.1 C.2.1 dX0_end_9 (by decide) (fun h9 => ?_) (fun h9 => ?_)
    · replace hf := hf.1 h9
      refine lv_aload_n C.1 C.2.1 dX0_end_14 rfl (lv_at hl 0 rfl) ?_
      refine lv_iload_n C.1 C.2.1 dX0_end_15 rfl (lv_at hl 1 rfl) ?_
      refine zp_taped C hw dX0_end_16 (fun s16 H locs e16 hw => ?_)
      replace hf := hf s16 e16
      refine lv_iload_n C.1 C.2.1 dX0_end_19 rfl (lv_at hl 1 rfl) ?_
      exact hret _ _ _ _ _ _ hf hw dX0_end_20
    · replace hf := hf.2 h9
      refine lv_iconst (v := (-1)) C.1 C.2.1 dX0_end_12 rfl ?_
      exact hret _ _ _ _ _ _ hf hw dX0_end_13
def z_isSmall (x0 : Int32) (Q : Int32 → Prop) : Prop :=
  (zB (fz_in (Int32.toInt64 x0) 0 25) ∧ Q (fz_in (Int32.toInt64 x0) 0 25))
abbrev rm_z_isSmall : Room := { frames := 1, cells := 0, slots := 0, locals := 25 }
set_option maxHeartbeats 4000000 in
theorem met_z_isSmall (l : Launch) (x0 : Int32) (Q : Int32 → Prop) (hf : z_isSmall x0 Q) : Met l yX0_isSmall (ws_ yX0_isSmall cX0_isSmall 1 (some .boolean)) rm_z_isSmall (va_Pc [.int x0] (fun _ => True)) (gR rvI Q) 0 0 (fun _ => False) := by
  refine g_metSZ (by decide) (Nat.le_of_ble_eq_true rfl) ?_
  intro p e s m args below meth c QQ ls H C hl hret
  replace hl : lv_has ls 1 [(0, .int x0)] := hl
  unfold z_isSmall at hf
  refine lv_iload_n C.1 C.2.1 dX0_isSmall_0 rfl (lv_at hl 0 rfl) ?_
  refine lv_i2l C.1 C.2.1 dX0_isSmall_1 rfl ?_
  refine lv_lconst (v := 0) C.1 C.2.1 dX0_isSmall_2 rfl ?_
  refine lv_ldc2 C.1 C.2.1 C.2.2.2.1 (C.2.2.2.2 _ q923) dX0_isSmall_3 ?_
  refine kz_in C hl.1 (Nat.le_of_ble_eq_true rfl) ⟨Nat.le_of_ble_eq_true rfl, Nat.le_of_ble_eq_true rfl⟩ dX0_isSmall_6 ?_
  obtain ⟨hz, hf⟩ := hf
  exact hret _ _ _ hf hz dX0_isSmall_9
def fz_isSmall (x0 : Int32) : Int32 :=
  (fz_in (Int32.toInt64 x0) 0 25)
theorem fz_isSmall_z {x0 : Int32} : zB (fz_isSmall x0) := by
  unfold fz_isSmall
  repeat' split
  all_goals first | exact Or.inl rfl | exact Or.inr rfl | exact fz_in_z
theorem z_isSmall_f {Q : Int32 → Prop} {x0 : Int32} (h : Q (fz_isSmall x0)) : z_isSmall x0 Q := by
  unfold fz_isSmall at h
  unfold z_isSmall
  exact ⟨fz_in_z, h⟩
theorem kz_isSmall {p : Program} {l : Launch} {e : Env} {R : Room} {s : State} {m : MethodId} {args : Array Value} {below : List Frame} {meth : Method} {c : Code} {H : Heap} {locs : List Loc} {Z : State → Prop} {cc : ByteArray} {nL pc : Nat} {ls : Array Slot} {rest : List Value} {x0 : Int32} (C : CallFix p m c cc nL s args lw_all RX0) (hsz : ls.size = nL) (hrm : (rest.map fun v => v.category).sum ≤ 8) (hR : rm_z_isSmall.frames + 1 ≤ R.frames ∧ 8 + (1 + 11) + rm_z_isSmall.locals ≤ R.locals) (hdg : decode cc pc = .ok (.invokestatic 454, 3)) (kk : W p l e R s m args below meth c H locs 0 0 Z (F0 m (pc + 3) ls (.int (fz_isSmall x0) :: rest))) : W p l e R s m args below meth c H locs 0 0 Z (F0 m pc ls (.int x0 :: rest)) :=
  g_callSRf (As := [.int x0]) (rest := rest) C (met_z_isSmall l x0 (fun r => r = fz_isSmall x0) (z_isSmall_f rfl)) (va_cwS 1 C.2.2.2.2 (lw_S q920 q921 q200 q922) rfl rfl rfl (by decide +kernel) hR) rfl hsz rfl hrm ⟨Nat.zero_le _, Nat.zero_le _⟩ hdg kk
def z_isLeft (σ : St) (x1 : Int32) (Q : Int32 → Prop) : Prop :=
  Q 0
abbrev rm_z_isLeft : Room := { frames := 1, cells := 0, slots := 0, locals := 25 }
set_option maxHeartbeats 4000000 in
theorem met_z_isLeft (l : Launch) (D : va_G) (ct : Ct) (ad : Nat → Nat) (hJ : gJ shZ ad ct) (σ : St) (x1 : Int32) (Q : Int32 → Prop) (hf : z_isLeft σ x1 Q) : Met l yX0_isLeft (ws_ yX0_isLeft cX0_isLeft 2 (some .boolean)) rm_z_isLeft (va_Pc [.ref (ad 0), .int x1] (gP D ct shZ ad σ)) (gR rvI Q) 0 0 (fun _ => False) := by
  refine g_metRZ hJ (by decide) (Nat.le_of_ble_eq_true rfl) ?_
  intro p e s m args below meth c QQ ls H C hw hl hret
  replace hl : lv_has ls 2 [(0, .ref (ad 0)), (1, .int x1)] := hl
  unfold z_isLeft at hf
  refine lv_aload_n C.1 C.2.1 dX0_isLeft_0 rfl (lv_at hl 0 rfl) ?_
  refine zg_grammar C hw dX0_isLeft_1 ?_
  refine lv_ifnullN (tgt := 42) C.1 C.2.1 dX0_isLeft_4 (by decide) ?_
  refine lv_iconst (v := 0) C.1 C.2.1 dX0_isLeft_42 rfl ?_
  exact hret _ _ _ hf (Or.inl rfl) dX0_isLeft_43
def fz_isLeft (σ : St) (x1 : Int32) : Int32 :=
  0
theorem fz_isLeft_z {σ : St} {x1 : Int32} : zB (fz_isLeft σ x1) := by
  unfold fz_isLeft
  repeat' split
  all_goals first | exact Or.inl rfl | exact Or.inr rfl | exact fz_in_z | exact fz_has_z
theorem z_isLeft_f {Q : Int32 → Prop} {σ : St} {x1 : Int32} (h : Q (fz_isLeft σ x1)) : z_isLeft σ x1 Q := by
  unfold fz_isLeft at h
  unfold z_isLeft
  exact h
theorem kz_isLeft {p : Program} {l : Launch} {e : Env} {R : Room} {s : State} {m : MethodId} {args : Array Value} {below : List Frame} {meth : Method} {c : Code} {H : Heap} {locs : List Loc} {Z : State → Prop} {cc : ByteArray} {nL pc : Nat} {ls : Array Slot} {rest : List Value} {D : va_G} {ct : Ct} {ad : Nat → Nat} {σ : St} {x1 : Int32} (C : CallFix p m c cc nL s args lw_all RX0) (hw : gH D ct shZ ad s σ H locs) (hsz : ls.size = nL) (hrm : (rest.map fun v => v.category).sum ≤ 8) (hR : rm_z_isLeft.frames + 1 ≤ R.frames ∧ 8 + (2 + 11) + rm_z_isLeft.locals ≤ R.locals) (hdg : decode cc pc = .ok (.invokevirtual 378, 3)) (kk : W p l e R s m args below meth c H locs 0 0 Z (F0 m (pc + 3) ls (.int (fz_isLeft σ x1) :: rest))) : W p l e R s m args below meth c H locs 0 0 Z (F0 m pc ls (.int x1 :: .ref (ad 0) :: rest)) :=
  g_callVRf (As := [.int x1]) (rest := rest) C hw rfl rfl (met_z_isLeft l D ct ad hw.2.1 σ x1 (fun r => r = fz_isLeft σ x1) (z_isLeft_f rfl)) (cwV 1 C.2.2.2.2 (lw_V q856 q858 qs44 q200 q859) rfl rfl rfl (by decide +kernel) hR) rfl hsz rfl hrm ⟨Nat.zero_le _, Nat.zero_le _⟩ hdg kk
def z_isSpan (σ : St) (x1 : Int32) (x2 : Int32) (Q : Int32 → Prop) : Prop :=
  (((fz_isLevel σ x2) = 0 → Q 0) ∧ (¬ (fz_isLevel σ x2) = 0 → ((x1 < 0 → Q 0) ∧ (¬ x1 < 0 → ((x2 < x1 → Q 0) ∧ (¬ x2 < x1 → Q 1))))))
abbrev rm_z_isSpan : Room := { frames := 1, cells := 0, slots := 0, locals := 21 }
set_option maxHeartbeats 4000000 in
theorem met_z_isSpan (l : Launch) (D : va_G) (ct : Ct) (ad : Nat → Nat) (hJ : gJ shZ ad ct) (σ : St) (x1 : Int32) (x2 : Int32) (Q : Int32 → Prop) (hf : z_isSpan σ x1 x2 Q) : Met l yX0_isSpan (ws_ yX0_isSpan cX0_isSpan 3 (some .boolean)) rm_z_isSpan (va_Pc [.ref (ad 0), .int x1, .int x2] (gP D ct shZ ad σ)) (gR rvI Q) 0 0 (fun _ => False) := by
  refine g_metRZ hJ (by decide) (Nat.le_of_ble_eq_true rfl) ?_
  intro p e s m args below meth c QQ ls H C hw hl hret
  replace hl : lv_has ls 3 [(0, .ref (ad 0)), (1, .int x1), (2, .int x2)] := hl
  unfold z_isSpan at hf
  refine lv_aload_n C.1 C.2.1 dX0_isSpan_0 rfl (lv_at hl 0 rfl) ?_
  refine lv_iload_n C.1 C.2.1 dX0_isSpan_1 rfl (lv_at hl 2 rfl) ?_
  refine kz_isLevel C hw hl.1 (Nat.le_of_ble_eq_true rfl) ⟨Nat.le_of_ble_eq_true rfl, Nat.le_of_ble_eq_true rfl⟩ dX0_isSpan_2 ?_
  refine lv_if_eq (tgt := 21) C.1 C.2.1 dX0_isSpan_5 (by decide) (fun h5 => ?_) (fun h5 => ?_)
  · replace hf := hf.1 h5
    refine lv_iconst (v := 0) C.1 C.2.1 dX0_isSpan_21 rfl ?_
    exact hret _ _ _ hf (Or.inl rfl) dX0_isSpan_22
  · replace hf := hf.2 h5
    refine lv_iload_n C.1 C.2.1 dX0_isSpan_8 rfl (lv_at hl 1 rfl) ?_
    refine lv_if_lt (tgt := 21) C.1 C.2.1 dX0_isSpan_9 (by decide) (fun h9 => ?_) (fun h9 => ?_)
    · replace hf := hf.1 h9
      refine lv_iconst (v := 0) C.1 C.2.1 dX0_isSpan_21 rfl ?_
      exact hret _ _ _ hf (Or.inl rfl) dX0_isSpan_22
    · replace hf := hf.2 h9
      refine lv_iload_n C.1 C.2.1 dX0_isSpan_12 rfl (lv_at hl 1 rfl) ?_
      refine lv_iload_n C.1 C.2.1 dX0_isSpan_13 rfl (lv_at hl 2 rfl) ?_
      refine lv_icmp_gt (tgt := 21) C.1 C.2.1 dX0_isSpan_14 (by decide) (fun h14 => ?_) (fun h14 => ?_)
      · replace hf := hf.1 h14
        refine lv_iconst (v := 0) C.1 C.2.1 dX0_isSpan_21 rfl ?_
        exact hret _ _ _ hf (Or.inl rfl) dX0_isSpan_22
      · replace hf := hf.2 h14
        refine lv_iconst (v := 1) C.1 C.2.1 dX0_isSpan_17 rfl ?_
        refine lv_goto (tgt := 22) C.1 C.2.1 dX0_isSpan_18 (by decide) ?_
        exact hret _ _ _ hf (Or.inr rfl) dX0_isSpan_22
def fz_isSpan (σ : St) (x1 : Int32) (x2 : Int32) : Int32 :=
  (if (fz_isLevel σ x2) = 0 then 0 else (if x1 < 0 then 0 else (if x2 < x1 then 0 else 1)))
theorem fz_isSpan_z {σ : St} {x1 : Int32} {x2 : Int32} : zB (fz_isSpan σ x1 x2) := by
  unfold fz_isSpan
  repeat' split
  all_goals first | exact Or.inl rfl | exact Or.inr rfl | exact fz_isLevel_z
theorem z_isSpan_f {Q : Int32 → Prop} {σ : St} {x1 : Int32} {x2 : Int32} (h : Q (fz_isSpan σ x1 x2)) : z_isSpan σ x1 x2 Q := by
  unfold fz_isSpan at h
  unfold z_isSpan
  refine ⟨fun c => ?_, fun c => ?_⟩
  · rw [if_pos c] at h
    exact h
  · rw [if_neg c] at h
    refine ⟨fun c => ?_, fun c => ?_⟩
    · rw [if_pos c] at h
      exact h
    · rw [if_neg c] at h
      refine ⟨fun c => ?_, fun c => ?_⟩
      · rw [if_pos c] at h
        exact h
      · rw [if_neg c] at h
        exact h
theorem kz_isSpan {p : Program} {l : Launch} {e : Env} {R : Room} {s : State} {m : MethodId} {args : Array Value} {below : List Frame} {meth : Method} {c : Code} {H : Heap} {locs : List Loc} {Z : State → Prop} {cc : ByteArray} {nL pc : Nat} {ls : Array Slot} {rest : List Value} {D : va_G} {ct : Ct} {ad : Nat → Nat} {σ : St} {x1 : Int32} {x2 : Int32} (C : CallFix p m c cc nL s args lw_all RX0) (hw : gH D ct shZ ad s σ H locs) (hsz : ls.size = nL) (hrm : (rest.map fun v => v.category).sum ≤ 8) (hR : rm_z_isSpan.frames + 1 ≤ R.frames ∧ 8 + (3 + 11) + rm_z_isSpan.locals ≤ R.locals) (hdg : decode cc pc = .ok (.invokevirtual 607, 3)) (kk : W p l e R s m args below meth c H locs 0 0 Z (F0 m (pc + 3) ls (.int (fz_isSpan σ x1 x2) :: rest))) : W p l e R s m args below meth c H locs 0 0 Z (F0 m pc ls (.int x2 :: .int x1 :: .ref (ad 0) :: rest)) :=
  g_callVRf (As := [.int x1, .int x2]) (rest := rest) C hw rfl rfl (met_z_isSpan l D ct ad hw.2.1 σ x1 x2 (fun r => r = fz_isSpan σ x1 x2) (z_isSpan_f rfl)) (cwV 2 C.2.2.2.2 (lw_V q1065 q1067 qs70 q200 q1068) rfl rfl rfl (by decide +kernel) hR) rfl hsz rfl hrm ⟨Nat.zero_le _, Nat.zero_le _⟩ hdg kk
def z_canBan (σ : St) (x1 : Int32) (x2 : Int32) (x3 : Int32) (Q : Int32 → Prop) : Prop :=
  (((fz_isRule σ x1) = 0 → Q 0) ∧ (¬ (fz_isRule σ x1) = 0 → (((fz_isRule σ x3) = 0 → Q 0) ∧ (¬ (fz_isRule σ x3) = 0 → ((x2 < 0 → Q 0) ∧ (¬ x2 < 0 → False))))))
abbrev rm_z_canBan : Room := { frames := 1, cells := 0, slots := 0, locals := 21 }
set_option maxHeartbeats 4000000 in
theorem met_z_canBan (l : Launch) (D : va_G) (ct : Ct) (ad : Nat → Nat) (hJ : gJ shZ ad ct) (σ : St) (x1 : Int32) (x2 : Int32) (x3 : Int32) (Q : Int32 → Prop) (hf : z_canBan σ x1 x2 x3 Q) : Met l yX0_canBan (ws_ yX0_canBan cX0_canBan 4 (some .boolean)) rm_z_canBan (va_Pc [.ref (ad 0), .int x1, .int x2, .int x3] (gP D ct shZ ad σ)) (gR rvI Q) 0 0 (fun _ => False) := by
  refine g_metRZ hJ (by decide) (Nat.le_of_ble_eq_true rfl) ?_
  intro p e s m args below meth c QQ ls H C hw hl hret
  replace hl : lv_has ls 4 [(0, .ref (ad 0)), (1, .int x1), (2, .int x2), (3, .int x3)] := hl
  unfold z_canBan at hf
  refine lv_aload_n C.1 C.2.1 dX0_canBan_0 rfl (lv_at hl 0 rfl) ?_
  refine lv_iload_n C.1 C.2.1 dX0_canBan_1 rfl (lv_at hl 1 rfl) ?_
  refine kz_isRule C hw hl.1 (Nat.le_of_ble_eq_true rfl) ⟨Nat.le_of_ble_eq_true rfl, Nat.le_of_ble_eq_true rfl⟩ dX0_canBan_2 ?_
  refine lv_if_eq (tgt := 54) C.1 C.2.1 dX0_canBan_5 (by decide) (fun h5 => ?_) (fun h5 => ?_)
  · replace hf := hf.1 h5
    refine lv_iconst (v := 0) C.1 C.2.1 dX0_canBan_54 rfl ?_
    exact hret _ _ _ hf (Or.inl rfl) dX0_canBan_55
  · replace hf := hf.2 h5
    refine lv_aload_n C.1 C.2.1 dX0_canBan_8 rfl (lv_at hl 0 rfl) ?_
    refine lv_iload_n C.1 C.2.1 dX0_canBan_9 rfl (lv_at hl 3 rfl) ?_
    refine kz_isRule C hw hl.1 (Nat.le_of_ble_eq_true rfl) ⟨Nat.le_of_ble_eq_true rfl, Nat.le_of_ble_eq_true rfl⟩ dX0_canBan_10 ?_
    refine lv_if_eq (tgt := 54) C.1 C.2.1 dX0_canBan_13 (by decide) (fun h13 => ?_) (fun h13 => ?_)
    · replace hf := hf.1 h13
      refine lv_iconst (v := 0) C.1 C.2.1 dX0_canBan_54 rfl ?_
      exact hret _ _ _ hf (Or.inl rfl) dX0_canBan_55
    · replace hf := hf.2 h13
      refine lv_iload_n C.1 C.2.1 dX0_canBan_16 rfl (lv_at hl 2 rfl) ?_
      refine lv_if_lt (tgt := 54) C.1 C.2.1 dX0_canBan_17 (by decide) (fun h17 => ?_) (fun h17 => ?_)
      · replace hf := hf.1 h17
        refine lv_iconst (v := 0) C.1 C.2.1 dX0_canBan_54 rfl ?_
        exact hret _ _ _ hf (Or.inl rfl) dX0_canBan_55
      · replace hf := hf.2 h17
        refine lv_iload_n C.1 C.2.1 dX0_canBan_20 rfl (lv_at hl 2 rfl) ?_
        refine lv_aload_n C.1 C.2.1 dX0_canBan_21 rfl (lv_at hl 0 rfl) ?_
        refine zg_grammar C hw dX0_canBan_22 ?_
        exact False.elim hf
theorem kz_canBan {p : Program} {l : Launch} {e : Env} {R : Room} {s : State} {m : MethodId} {args : Array Value} {below : List Frame} {meth : Method} {c : Code} {H : Heap} {locs : List Loc} {Z : State → Prop} {cc : ByteArray} {nL pc : Nat} {ls : Array Slot} {rest : List Value} {D : va_G} {ct : Ct} {ad : Nat → Nat} {σ : St} {x1 : Int32} {x2 : Int32} {x3 : Int32} {Qp : Int32 → Prop} (C : CallFix p m c cc nL s args lw_all RX0) (hw : gH D ct shZ ad s σ H locs) (hsz : ls.size = nL) (hrm : (rest.map fun v => v.category).sum ≤ 8) (hR : rm_z_canBan.frames + 1 ≤ R.frames ∧ 8 + (4 + 11) + rm_z_canBan.locals ≤ R.locals) (hdg : decode cc pc = .ok (.invokevirtual 482, 3)) (hf : z_canBan σ x1 x2 x3 Qp) (kk : ∀ (r : Int32), Qp r → W p l e R s m args below meth c H locs 0 0 Z (F0 m (pc + 3) ls (.int r :: rest))) : W p l e R s m args below meth c H locs 0 0 Z (F0 m pc ls (.int x3 :: .int x2 :: .int x1 :: .ref (ad 0) :: rest)) :=
  g_callVR (As := [.int x1, .int x2, .int x3]) (rest := rest) C hw rfl rfl (met_z_canBan l D ct ad hw.2.1 σ x1 x2 x3 Qp hf) (cwV 3 C.2.2.2.2 (lw_V q986 q988 qs58 q200 q989) rfl rfl rfl (by decide +kernel) hR) rfl hsz rfl hrm ⟨Nat.zero_le _, Nat.zero_le _⟩ hdg kk
def z_rule (σ : St) (x1 : Int32) (x2 : Int32) (Q : Int32 → Prop) : Prop :=
  (((fz_isRule σ x1) = 0 → Q (-1)) ∧ (¬ (fz_isRule σ x1) = 0 → ((x2 = 0 → False) ∧ (¬ x2 = 0 → ((x2 = 1 → False) ∧ (¬ x2 = 1 → ((x2 = 2 → False) ∧ (¬ x2 = 2 → ((x2 = 3 → False) ∧ (¬ x2 = 3 → ((x2 = 4 → Q (((σ.1 2) >>> (x1 &&& 31)) &&& 1)) ∧ (¬ x2 = 4 → Q (-1)))))))))))))
abbrev rm_z_rule : Room := { frames := 1, cells := 0, slots := 0, locals := 21 }
set_option maxHeartbeats 4000000 in
theorem met_z_rule (l : Launch) (D : va_G) (ct : Ct) (ad : Nat → Nat) (hJ : gJ shZ ad ct) (σ : St) (x1 : Int32) (x2 : Int32) (Q : Int32 → Prop) (hf : z_rule σ x1 x2 Q) : Met l yX0_rule (ws_ yX0_rule cX0_rule 3 (some .int)) rm_z_rule (va_Pc [.ref (ad 0), .int x1, .int x2] (gP D ct shZ ad σ)) (gR rvI Q) 0 0 (fun _ => False) := by
  refine g_metRI hJ (by decide) (Nat.le_of_ble_eq_true rfl) ?_
  intro p e s m args below meth c QQ ls H C hw hl hret
  replace hl : lv_has ls 3 [(0, .ref (ad 0)), (1, .int x1), (2, .int x2)] := hl
  unfold z_rule at hf
  refine lv_aload_n C.1 C.2.1 dX0_rule_0 rfl (lv_at hl 0 rfl) ?_
  refine lv_iload_n C.1 C.2.1 dX0_rule_1 rfl (lv_at hl 1 rfl) ?_
  refine kz_isRule C hw hl.1 (Nat.le_of_ble_eq_true rfl) ⟨Nat.le_of_ble_eq_true rfl, Nat.le_of_ble_eq_true rfl⟩ dX0_rule_2 ?_
  refine lv_if_ne (tgt := 10) C.1 C.2.1 dX0_rule_5 (by decide) (fun h5 => ?_) (fun h5 => ?_)
  · replace hf := hf.2 h5
    refine lv_iload_n C.1 C.2.1 dX0_rule_10 rfl (lv_at hl 2 rfl) ?_
    by_cases h11_0 : x2 = 0
    · replace hf := hf.1 h11_0
      refine lv_tableIn (tgt := 44) C.1 C.2.1 dX0_rule_11 (by rw [h11_0]; decide) (by rw [h11_0]; decide) (by rw [h11_0]; rfl) (by decide) ?_
      refine lv_aload_n C.1 C.2.1 dX0_rule_44 rfl (lv_at hl 0 rfl) ?_
      refine zg_grammar C hw dX0_rule_45 ?_
      exact False.elim hf
    · replace hf := hf.2 h11_0
      by_cases h11_1 : x2 = 1
      · replace hf := hf.1 h11_1
        refine lv_tableIn (tgt := 54) C.1 C.2.1 dX0_rule_11 (by rw [h11_1]; decide) (by rw [h11_1]; decide) (by rw [h11_1]; rfl) (by decide) ?_
        refine lv_aload_n C.1 C.2.1 dX0_rule_54 rfl (lv_at hl 0 rfl) ?_
        refine zg_grammar C hw dX0_rule_55 ?_
        exact False.elim hf
      · replace hf := hf.2 h11_1
        by_cases h11_2 : x2 = 2
        · replace hf := hf.1 h11_2
          refine lv_tableIn (tgt := 64) C.1 C.2.1 dX0_rule_11 (by rw [h11_2]; decide) (by rw [h11_2]; decide) (by rw [h11_2]; rfl) (by decide) ?_
          refine lv_aload_n C.1 C.2.1 dX0_rule_64 rfl (lv_at hl 0 rfl) ?_
          refine zg_grammar C hw dX0_rule_65 ?_
          exact False.elim hf
        · replace hf := hf.2 h11_2
          by_cases h11_3 : x2 = 3
          · replace hf := hf.1 h11_3
            refine lv_tableIn (tgt := 74) C.1 C.2.1 dX0_rule_11 (by rw [h11_3]; decide) (by rw [h11_3]; decide) (by rw [h11_3]; rfl) (by decide) ?_
            refine lv_aload_n C.1 C.2.1 dX0_rule_74 rfl (lv_at hl 0 rfl) ?_
            refine zg_grammar C hw dX0_rule_75 ?_
            exact False.elim hf
          · replace hf := hf.2 h11_3
            by_cases h11_4 : x2 = 4
            · replace hf := hf.1 h11_4
              refine lv_tableIn (tgt := 84) C.1 C.2.1 dX0_rule_11 (by rw [h11_4]; decide) (by rw [h11_4]; decide) (by rw [h11_4]; rfl) (by decide) ?_
              refine lv_aload_n C.1 C.2.1 dX0_rule_84 rfl (lv_at hl 0 rfl) ?_
              refine zg_struck C hw dX0_rule_85 ?_
              refine lv_iload_n C.1 C.2.1 dX0_rule_88 rfl (lv_at hl 1 rfl) ?_
              refine lv_ishr C.1 C.2.1 dX0_rule_89 ?_
              refine lv_iconst (v := 1) C.1 C.2.1 dX0_rule_90 rfl ?_
              refine lv_iand C.1 C.2.1 dX0_rule_91 ?_
              exact hret _ _ _ hf dX0_rule_92
            · replace hf := hf.2 h11_4
              refine lv_tableOut (tgt := 93) C.1 C.2.1 dX0_rule_11 (tb_out_0_4 h11_0 h11_1 h11_2 h11_3 h11_4) (by decide) ?_
              refine lv_iconst (v := (-1)) C.1 C.2.1 dX0_rule_93 rfl ?_
              exact hret _ _ _ hf dX0_rule_94
  · replace hf := hf.1 h5
    refine lv_iconst (v := (-1)) C.1 C.2.1 dX0_rule_8 rfl ?_
    exact hret _ _ _ hf dX0_rule_9
def z_symbol (σ : St) (x1 : Int32) (x2 : Int32) (Q : Int32 → Prop) : Prop :=
  (((fz_isRule σ x1) = 0 → Q (-1)) ∧ (¬ (fz_isRule σ x1) = 0 → ((x2 < 0 → Q (-1)) ∧ (¬ x2 < 0 → False))))
abbrev rm_z_symbol : Room := { frames := 1, cells := 0, slots := 0, locals := 21 }
set_option maxHeartbeats 4000000 in
theorem met_z_symbol (l : Launch) (D : va_G) (ct : Ct) (ad : Nat → Nat) (hJ : gJ shZ ad ct) (σ : St) (x1 : Int32) (x2 : Int32) (Q : Int32 → Prop) (hf : z_symbol σ x1 x2 Q) : Met l yX0_symbol (ws_ yX0_symbol cX0_symbol 3 (some .int)) rm_z_symbol (va_Pc [.ref (ad 0), .int x1, .int x2] (gP D ct shZ ad σ)) (gR rvI Q) 0 0 (fun _ => False) := by
  refine g_metRI hJ (by decide) (Nat.le_of_ble_eq_true rfl) ?_
  intro p e s m args below meth c QQ ls H C hw hl hret
  replace hl : lv_has ls 3 [(0, .ref (ad 0)), (1, .int x1), (2, .int x2)] := hl
  unfold z_symbol at hf
  refine lv_aload_n C.1 C.2.1 dX0_symbol_0 rfl (lv_at hl 0 rfl) ?_
  refine lv_iload_n C.1 C.2.1 dX0_symbol_1 rfl (lv_at hl 1 rfl) ?_
  refine kz_isRule C hw hl.1 (Nat.le_of_ble_eq_true rfl) ⟨Nat.le_of_ble_eq_true rfl, Nat.le_of_ble_eq_true rfl⟩ dX0_symbol_2 ?_
  refine lv_if_eq (tgt := 37) C.1 C.2.1 dX0_symbol_5 (by decide) (fun h5 => ?_) (fun h5 => ?_)
  · replace hf := hf.1 h5
    refine lv_iconst (v := (-1)) C.1 C.2.1 dX0_symbol_37 rfl ?_
    exact hret _ _ _ hf dX0_symbol_38
  · replace hf := hf.2 h5
    refine lv_iload_n C.1 C.2.1 dX0_symbol_8 rfl (lv_at hl 2 rfl) ?_
    refine lv_if_lt (tgt := 37) C.1 C.2.1 dX0_symbol_9 (by decide) (fun h9 => ?_) (fun h9 => ?_)
    · replace hf := hf.1 h9
      refine lv_iconst (v := (-1)) C.1 C.2.1 dX0_symbol_37 rfl ?_
      exact hret _ _ _ hf dX0_symbol_38
    · replace hf := hf.2 h9
      refine lv_iload_n C.1 C.2.1 dX0_symbol_12 rfl (lv_at hl 2 rfl) ?_
      refine lv_aload_n C.1 C.2.1 dX0_symbol_13 rfl (lv_at hl 0 rfl) ?_
      refine zg_grammar C hw dX0_symbol_14 ?_
      exact False.elim hf
def z_goes (σ : St) (x1 : Int32) (x2 : Int32) (Q : Int32 → Prop) : Prop :=
  (((fz_isState σ x1) = 0 → Q (-1)) ∧ (¬ (fz_isState σ x1) = 0 → (((fz_in (Int32.toInt64 x2) 0 51) = 0 → Q (-1)) ∧ (¬ (fz_in (Int32.toInt64 x2) 0 51) = 0 → (vp_in ((52 * x1) + x2) 4732 ∧ Q (gI σ 24 ((52 * x1) + x2)))))))
abbrev rm_z_goes : Room := { frames := 1, cells := 0, slots := 0, locals := 25 }
set_option maxHeartbeats 4000000 in
theorem met_z_goes (l : Launch) (D : va_G) (ct : Ct) (ad : Nat → Nat) (hJ : gJ shZ ad ct) (σ : St) (x1 : Int32) (x2 : Int32) (Q : Int32 → Prop) (hf : z_goes σ x1 x2 Q) : Met l yX0_goes (ws_ yX0_goes cX0_goes 3 (some .int)) rm_z_goes (va_Pc [.ref (ad 0), .int x1, .int x2] (gP D ct shZ ad σ)) (gR rvI Q) 0 0 (fun _ => False) := by
  refine g_metRI hJ (by decide) (Nat.le_of_ble_eq_true rfl) ?_
  intro p e s m args below meth c QQ ls H C hw hl hret
  replace hl : lv_has ls 3 [(0, .ref (ad 0)), (1, .int x1), (2, .int x2)] := hl
  unfold z_goes at hf
  refine lv_aload_n C.1 C.2.1 dX0_goes_0 rfl (lv_at hl 0 rfl) ?_
  refine lv_iload_n C.1 C.2.1 dX0_goes_1 rfl (lv_at hl 1 rfl) ?_
  refine kz_isState C hw hl.1 (Nat.le_of_ble_eq_true rfl) ⟨Nat.le_of_ble_eq_true rfl, Nat.le_of_ble_eq_true rfl⟩ dX0_goes_2 ?_
  refine lv_if_eq (tgt := 34) C.1 C.2.1 dX0_goes_5 (by decide) (fun h5 => ?_) (fun h5 => ?_)
  · replace hf := hf.1 h5
    refine lv_iconst (v := (-1)) C.1 C.2.1 dX0_goes_34 rfl ?_
    exact hret _ _ _ hf dX0_goes_35
  · replace hf := hf.2 h5
    refine lv_iload_n C.1 C.2.1 dX0_goes_8 rfl (lv_at hl 2 rfl) ?_
    refine lv_i2l C.1 C.2.1 dX0_goes_9 rfl ?_
    refine lv_lconst (v := 0) C.1 C.2.1 dX0_goes_10 rfl ?_
    refine lv_ldc2 C.1 C.2.1 C.2.2.2.1 (C.2.2.2.2 _ q861) dX0_goes_11 ?_
    refine kz_in C hl.1 (Nat.le_of_ble_eq_true rfl) ⟨Nat.le_of_ble_eq_true rfl, Nat.le_of_ble_eq_true rfl⟩ dX0_goes_14 ?_
    refine lv_if_eq (tgt := 34) C.1 C.2.1 dX0_goes_17 (by decide) (fun h17 => ?_) (fun h17 => ?_)
    · replace hf := hf.1 h17
      refine lv_iconst (v := (-1)) C.1 C.2.1 dX0_goes_34 rfl ?_
      exact hret _ _ _ hf dX0_goes_35
    · replace hf := hf.2 h17
      refine lv_aload_n C.1 C.2.1 dX0_goes_20 rfl (lv_at hl 0 rfl) ?_
      refine zg_goesTo C hw dX0_goes_21 ?_
      refine lv_bipush (v := 52) C.1 C.2.1 dX0_goes_24 rfl ?_
      refine lv_iload_n C.1 C.2.1 dX0_goes_26 rfl (lv_at hl 1 rfl) ?_
      refine lv_imul C.1 C.2.1 dX0_goes_27 ?_
      refine lv_iload_n C.1 C.2.1 dX0_goes_28 rfl (lv_at hl 2 rfl) ?_
      refine lv_iadd C.1 C.2.1 dX0_goes_29 ?_
      obtain ⟨b30, hf⟩ := hf
      refine g_iald C hw 24 rfl b30 dX0_goes_30 ?_
      refine lv_goto (tgt := 35) C.1 C.2.1 dX0_goes_31 (by decide) ?_
      exact hret _ _ _ hf dX0_goes_35
def z_points (σ : St) (x1 : Int32) (x2 : Int32) (Q : Int32 → Prop) : Prop :=
  (((fz_isState σ x1) = 0 → Q (-1)) ∧ (¬ (fz_isState σ x1) = 0 → (((fz_isRule σ x2) = 0 → Q (-1)) ∧ (¬ (fz_isRule σ x2) = 0 → (vp_in x1 91 ∧ Q (Int64.toInt32 (((gL σ 23 x1) >>> (Int32.toInt64 (5 * x2) &&& 63)) &&& 31)))))))
abbrev rm_z_points : Room := { frames := 1, cells := 0, slots := 0, locals := 21 }
set_option maxHeartbeats 4000000 in
theorem met_z_points (l : Launch) (D : va_G) (ct : Ct) (ad : Nat → Nat) (hJ : gJ shZ ad ct) (σ : St) (x1 : Int32) (x2 : Int32) (Q : Int32 → Prop) (hf : z_points σ x1 x2 Q) : Met l yX0_points (ws_ yX0_points cX0_points 3 (some .int)) rm_z_points (va_Pc [.ref (ad 0), .int x1, .int x2] (gP D ct shZ ad σ)) (gR rvI Q) 0 0 (fun _ => False) := by
  refine g_metRI hJ (by decide) (Nat.le_of_ble_eq_true rfl) ?_
  intro p e s m args below meth c QQ ls H C hw hl hret
  replace hl : lv_has ls 3 [(0, .ref (ad 0)), (1, .int x1), (2, .int x2)] := hl
  unfold z_points at hf
  refine lv_aload_n C.1 C.2.1 dX0_points_0 rfl (lv_at hl 0 rfl) ?_
  refine lv_iload_n C.1 C.2.1 dX0_points_1 rfl (lv_at hl 1 rfl) ?_
  refine kz_isState C hw hl.1 (Nat.le_of_ble_eq_true rfl) ⟨Nat.le_of_ble_eq_true rfl, Nat.le_of_ble_eq_true rfl⟩ dX0_points_2 ?_
  refine lv_if_eq (tgt := 34) C.1 C.2.1 dX0_points_5 (by decide) (fun h5 => ?_) (fun h5 => ?_)
  · replace hf := hf.1 h5
    refine lv_iconst (v := (-1)) C.1 C.2.1 dX0_points_34 rfl ?_
    exact hret _ _ _ hf dX0_points_35
  · replace hf := hf.2 h5
    refine lv_aload_n C.1 C.2.1 dX0_points_8 rfl (lv_at hl 0 rfl) ?_
    refine lv_iload_n C.1 C.2.1 dX0_points_9 rfl (lv_at hl 2 rfl) ?_
    refine kz_isRule C hw hl.1 (Nat.le_of_ble_eq_true rfl) ⟨Nat.le_of_ble_eq_true rfl, Nat.le_of_ble_eq_true rfl⟩ dX0_points_10 ?_
    refine lv_if_eq (tgt := 34) C.1 C.2.1 dX0_points_13 (by decide) (fun h13 => ?_) (fun h13 => ?_)
    · replace hf := hf.1 h13
      refine lv_iconst (v := (-1)) C.1 C.2.1 dX0_points_34 rfl ?_
      exact hret _ _ _ hf dX0_points_35
    · replace hf := hf.2 h13
      refine lv_aload_n C.1 C.2.1 dX0_points_16 rfl (lv_at hl 0 rfl) ?_
      refine zg_points C hw dX0_points_17 ?_
      refine lv_iload_n C.1 C.2.1 dX0_points_20 rfl (lv_at hl 1 rfl) ?_
      obtain ⟨b21, hf⟩ := hf
      refine g_lald C hw 23 rfl b21 dX0_points_21 ?_
      refine lv_iconst (v := 5) C.1 C.2.1 dX0_points_22 rfl ?_
      refine lv_iload_n C.1 C.2.1 dX0_points_23 rfl (lv_at hl 2 rfl) ?_
      refine lv_imul C.1 C.2.1 dX0_points_24 ?_
      refine lv_lshr C.1 C.2.1 dX0_points_25 rfl ?_
      refine lv_ldc2 C.1 C.2.1 C.2.2.2.1 (C.2.2.2.2 _ q887) dX0_points_26 ?_
      refine lv_land C.1 C.2.1 dX0_points_29 ?_
      refine lv_l2i C.1 C.2.1 dX0_points_30 rfl ?_
      refine lv_goto (tgt := 35) C.1 C.2.1 dX0_points_31 (by decide) ?_
      exact hret _ _ _ hf dX0_points_35
def z_done_p14 (σ : St) (x1 : Int32) (Q : Int32 → Prop) (K14 : Int32 → Int32 → Prop) (x2 : Int32) (x3 : Int32) : Prop :=
  False
def z_done (σ : St) (x1 : Int32) (Q : Int32 → Prop) : Prop :=
  (((fz_isState σ x1) = 0 → Q (-1)) ∧ (¬ (fz_isState σ x1) = 0 → (Lp2 (z_done_p14 σ x1 Q) 0 0)))
abbrev rm_z_done : Room := { frames := 1, cells := 0, slots := 0, locals := 21 }
set_option maxHeartbeats 4000000 in
theorem met_z_done (l : Launch) (D : va_G) (ct : Ct) (ad : Nat → Nat) (hJ : gJ shZ ad ct) (σ : St) (x1 : Int32) (Q : Int32 → Prop) (hf : z_done σ x1 Q) : Met l yX0_done (ws_ yX0_done cX0_done 4 (some .int)) rm_z_done (va_Pc [.ref (ad 0), .int x1] (gP D ct shZ ad σ)) (gR rvI Q) 0 0 (fun _ => False) := by
  refine g_metRI hJ (by decide) (Nat.le_of_ble_eq_true rfl) ?_
  intro p e s m args below meth c QQ ls H C hw hl hret
  replace hl : lv_has ls 4 [(0, .ref (ad 0)), (1, .int x1)] := hl
  have B14 : ∀ (x1 : Int32) (K14 : Int32 → Int32 → Prop) (_ : ∀ (x2 : Int32) (x3 : Int32) (ls : Array Slot), K14 x2 x3 → lv_has ls 4 [(0, .ref (ad 0)), (1, .int x1), (2, .int x2), (3, .int x3)] → W p l e rm_z_done s m args below meth c H [] 0 0 QQ (F0 m 14 ls [])) (x2 : Int32) (x3 : Int32) (ls : Array Slot), z_done_p14 σ x1 Q K14 x2 x3 → lv_has ls 4 [(0, .ref (ad 0)), (1, .int x1), (2, .int x2), (3, .int x3)] → W p l e rm_z_done s m args below meth c H [] 0 0 QQ (F0 m 14 ls []) := by
    intro x1 K14 hK14 x2 x3 ls hf hl
    unfold z_done_p14 at hf
    refine lv_iload_n C.1 C.2.1 dX0_done_14 rfl (lv_at hl 3 rfl) ?_
    refine lv_aload_n C.1 C.2.1 dX0_done_15 rfl (lv_at hl 0 rfl) ?_
    refine zg_grammar C hw dX0_done_16 ?_
    exact False.elim hf
  have P14 : ∀ (x1 : Int32) (n : Nat) (x2 : Int32) (x3 : Int32) (ls : Array Slot), LL2 (z_done_p14 σ x1 Q) n x2 x3 → lv_has ls 4 [(0, .ref (ad 0)), (1, .int x1), (2, .int x2), (3, .int x3)] → W p l e rm_z_done s m args below meth c H [] 0 0 QQ (F0 m 14 ls []) := by
    intro x1 n
    induction n with
    | zero => intro x2 x3 ls hf; exact False.elim hf
    | succ n ih => intro x2 x3 ls hf hl; exact B14 x1 (LL2 _ n) ih x2 x3 ls hf hl
  unfold z_done at hf
  refine lv_aload_n C.1 C.2.1 dX0_done_0 rfl (lv_at hl 0 rfl) ?_
  refine lv_iload_n C.1 C.2.1 dX0_done_1 rfl (lv_at hl 1 rfl) ?_
  refine kz_isState C hw hl.1 (Nat.le_of_ble_eq_true rfl) ⟨Nat.le_of_ble_eq_true rfl, Nat.le_of_ble_eq_true rfl⟩ dX0_done_2 ?_
  refine lv_if_ne (tgt := 10) C.1 C.2.1 dX0_done_5 (by decide) (fun h5 => ?_) (fun h5 => ?_)
  · replace hf := hf.2 h5
    refine lv_iconst (v := 0) C.1 C.2.1 dX0_done_10 rfl ?_
    refine lv_istore_n (lv' := [(2, .int 0), (0, .ref (ad 0)), (1, .int x1)]) C.1 C.2.1 dX0_done_11 rfl hl (Nat.le_of_ble_eq_true rfl) rfl (fun ls hl => ?_)
    refine lv_iconst (v := 0) C.1 C.2.1 dX0_done_12 rfl ?_
    refine lv_istore_n (lv' := [(3, .int 0), (2, .int 0), (0, .ref (ad 0)), (1, .int x1)]) C.1 C.2.1 dX0_done_13 rfl hl (Nat.le_of_ble_eq_true rfl) rfl (fun ls hl => ?_)
    obtain ⟨n, hf⟩ := hf
    exact P14 _ n _ _ _ hf (lv_sub hl [2, 3, 1, 0] rfl)
  · replace hf := hf.1 h5
    refine lv_iconst (v := (-1)) C.1 C.2.1 dX0_done_8 rfl ?_
    exact hret _ _ _ hf dX0_done_9
def z_strike (σ : St) (x1 : Int32) (Q : Int32 → Prop) : Prop :=
  (((fz_isRule σ x1) = 0 → Q (-1)) ∧ (¬ (fz_isRule σ x1) = 0 → False))
abbrev rm_z_strike : Room := { frames := 1, cells := 0, slots := 0, locals := 21 }
set_option maxHeartbeats 4000000 in
theorem met_z_strike (l : Launch) (D : va_G) (ct : Ct) (ad : Nat → Nat) (hJ : gJ shZ ad ct) (σ : St) (x1 : Int32) (Q : Int32 → Prop) (hf : z_strike σ x1 Q) : Met l yX0_strike (ws_ yX0_strike cX0_strike 2 (some .int)) rm_z_strike (va_Pc [.ref (ad 0), .int x1] (gP D ct shZ ad σ)) (gR rvI Q) 0 0 (fun _ => False) := by
  refine g_metRI hJ (by decide) (Nat.le_of_ble_eq_true rfl) ?_
  intro p e s m args below meth c QQ ls H C hw hl hret
  replace hl : lv_has ls 2 [(0, .ref (ad 0)), (1, .int x1)] := hl
  unfold z_strike at hf
  refine lv_aload_n C.1 C.2.1 dX0_strike_0 rfl (lv_at hl 0 rfl) ?_
  refine lv_iload_n C.1 C.2.1 dX0_strike_1 rfl (lv_at hl 1 rfl) ?_
  refine kz_isRule C hw hl.1 (Nat.le_of_ble_eq_true rfl) ⟨Nat.le_of_ble_eq_true rfl, Nat.le_of_ble_eq_true rfl⟩ dX0_strike_2 ?_
  refine lv_if_ne (tgt := 10) C.1 C.2.1 dX0_strike_5 (by decide) (fun h5 => ?_) (fun h5 => ?_)
  · replace hf := hf.2 h5
    refine lv_aload_n C.1 C.2.1 dX0_strike_10 rfl (lv_at hl 0 rfl) ?_
    refine lv_iload_n C.1 C.2.1 dX0_strike_11 rfl (lv_at hl 1 rfl) ?_
    exact False.elim hf
  · replace hf := hf.1 h5
    refine lv_iconst (v := (-1)) C.1 C.2.1 dX0_strike_8 rfl ?_
    exact hret _ _ _ hf dX0_strike_9
def z_filter (σ : St) (x1 : Int32) (Q : Int32 → Prop) : Prop :=
  Q (-1)
abbrev rm_z_filter : Room := { frames := 1, cells := 0, slots := 0, locals := 25 }
set_option maxHeartbeats 4000000 in
theorem met_z_filter (l : Launch) (D : va_G) (ct : Ct) (ad : Nat → Nat) (hJ : gJ shZ ad ct) (σ : St) (x1 : Int32) (Q : Int32 → Prop) (hf : z_filter σ x1 Q) : Met l yX0_filter (ws_ yX0_filter cX0_filter 2 (some .int)) rm_z_filter (va_Pc [.ref (ad 0), .int x1] (gP D ct shZ ad σ)) (gR rvI Q) 0 0 (fun _ => False) := by
  refine g_metRI hJ (by decide) (Nat.le_of_ble_eq_true rfl) ?_
  intro p e s m args below meth c QQ ls H C hw hl hret
  replace hl : lv_has ls 2 [(0, .ref (ad 0)), (1, .int x1)] := hl
  unfold z_filter at hf
  refine lv_aload_n C.1 C.2.1 dX0_filter_0 rfl (lv_at hl 0 rfl) ?_
  refine zg_grammar C hw dX0_filter_1 ?_
  refine lv_ifnullN (tgt := 19) C.1 C.2.1 dX0_filter_4 (by decide) ?_
  refine lv_iconst (v := (-1)) C.1 C.2.1 dX0_filter_19 rfl ?_
  exact hret _ _ _ hf dX0_filter_20
def fz_filter (σ : St) (x1 : Int32) : Int32 :=
  (-1)
theorem z_filter_f {Q : Int32 → Prop} {σ : St} {x1 : Int32} (h : Q (fz_filter σ x1)) : z_filter σ x1 Q := by
  unfold fz_filter at h
  unfold z_filter
  exact h
def z_alive_p23 (σ : St) (x1 : Int32) (x2 : Int32) (Q : Int32 → Prop) : Prop :=
  False
def z_alive (σ : St) (x1 : Int32) (x2 : Int32) (Q : Int32 → Prop) : Prop :=
  (((fz_isLevel σ x1) = 0 → Q (-1)) ∧ (¬ (fz_isLevel σ x1) = 0 → ((x2 = (-1) → (z_alive_p23 σ x1 x2 Q)) ∧ (¬ x2 = (-1) → (((fz_isState σ x2) = 0 → Q (-1)) ∧ (¬ (fz_isState σ x2) = 0 → (z_alive_p23 σ x1 x2 Q)))))))
abbrev rm_z_alive : Room := { frames := 1, cells := 0, slots := 0, locals := 21 }
set_option maxHeartbeats 4000000 in
theorem met_z_alive (l : Launch) (D : va_G) (ct : Ct) (ad : Nat → Nat) (hJ : gJ shZ ad ct) (σ : St) (x1 : Int32) (x2 : Int32) (Q : Int32 → Prop) (hf : z_alive σ x1 x2 Q) : Met l yX0_alive (ws_ yX0_alive cX0_alive 5 (some .int)) rm_z_alive (va_Pc [.ref (ad 0), .int x1, .int x2] (gP D ct shZ ad σ)) (gR rvI Q) 0 0 (fun _ => False) := by
  refine g_metRI hJ (by decide) (Nat.le_of_ble_eq_true rfl) ?_
  intro p e s m args below meth c QQ ls H C hw hl hret
  replace hl : lv_has ls 5 [(0, .ref (ad 0)), (1, .int x1), (2, .int x2)] := hl
  have J23 : ∀ (x1 : Int32) (x2 : Int32) (ls : Array Slot), z_alive_p23 σ x1 x2 Q → lv_has ls 5 [(0, .ref (ad 0)), (1, .int x1), (2, .int x2)] → W p l e rm_z_alive s m args below meth c H [] 0 0 QQ (F0 m 23 ls []) := by
    intro x1 x2 ls hf hl
    unfold z_alive_p23 at hf
    refine lv_aload_n C.1 C.2.1 dX0_alive_23 rfl (lv_at hl 0 rfl) ?_
    exact False.elim hf
  unfold z_alive at hf
  refine lv_aload_n C.1 C.2.1 dX0_alive_0 rfl (lv_at hl 0 rfl) ?_
  refine lv_iload_n C.1 C.2.1 dX0_alive_1 rfl (lv_at hl 1 rfl) ?_
  refine kz_isLevel C hw hl.1 (Nat.le_of_ble_eq_true rfl) ⟨Nat.le_of_ble_eq_true rfl, Nat.le_of_ble_eq_true rfl⟩ dX0_alive_2 ?_
  refine lv_if_eq (tgt := 21) C.1 C.2.1 dX0_alive_5 (by decide) (fun h5 => ?_) (fun h5 => ?_)
  · replace hf := hf.1 h5
    refine lv_iconst (v := (-1)) C.1 C.2.1 dX0_alive_21 rfl ?_
    exact hret _ _ _ hf dX0_alive_22
  · replace hf := hf.2 h5
    refine lv_iload_n C.1 C.2.1 dX0_alive_8 rfl (lv_at hl 2 rfl) ?_
    refine lv_iconst (v := (-1)) C.1 C.2.1 dX0_alive_9 rfl ?_
    refine lv_icmp_eq (tgt := 23) C.1 C.2.1 dX0_alive_10 (by decide) (fun h10 => ?_) (fun h10 => ?_)
    · replace hf := hf.1 h10
      exact J23 _ _ _ hf (lv_sub hl [0, 1, 2] rfl)
    · replace hf := hf.2 h10
      refine lv_aload_n C.1 C.2.1 dX0_alive_13 rfl (lv_at hl 0 rfl) ?_
      refine lv_iload_n C.1 C.2.1 dX0_alive_14 rfl (lv_at hl 2 rfl) ?_
      refine kz_isState C hw hl.1 (Nat.le_of_ble_eq_true rfl) ⟨Nat.le_of_ble_eq_true rfl, Nat.le_of_ble_eq_true rfl⟩ dX0_alive_15 ?_
      refine lv_if_ne (tgt := 23) C.1 C.2.1 dX0_alive_18 (by decide) (fun h18 => ?_) (fun h18 => ?_)
      · replace hf := hf.2 h18
        exact J23 _ _ _ hf (lv_sub hl [0, 1, 2] rfl)
      · replace hf := hf.1 h18
        refine lv_iconst (v := (-1)) C.1 C.2.1 dX0_alive_21 rfl ?_
        exact hret _ _ _ hf dX0_alive_22
def z_links_p23 (σ : St) (x1 : Int32) (x2 : Int32) (Q : Int32 → Prop) : Prop :=
  False
def z_links (σ : St) (x1 : Int32) (x2 : Int32) (Q : Int32 → Prop) : Prop :=
  (((fz_isLevel σ x1) = 0 → Q (-1)) ∧ (¬ (fz_isLevel σ x1) = 0 → ((x2 = (-1) → (z_links_p23 σ x1 x2 Q)) ∧ (¬ x2 = (-1) → (((fz_isState σ x2) = 0 → Q (-1)) ∧ (¬ (fz_isState σ x2) = 0 → (z_links_p23 σ x1 x2 Q)))))))
abbrev rm_z_links : Room := { frames := 1, cells := 0, slots := 0, locals := 21 }
set_option maxHeartbeats 4000000 in
theorem met_z_links (l : Launch) (D : va_G) (ct : Ct) (ad : Nat → Nat) (hJ : gJ shZ ad ct) (σ : St) (x1 : Int32) (x2 : Int32) (Q : Int32 → Prop) (hf : z_links σ x1 x2 Q) : Met l yX0_links (ws_ yX0_links cX0_links 6 (some .int)) rm_z_links (va_Pc [.ref (ad 0), .int x1, .int x2] (gP D ct shZ ad σ)) (gR rvI Q) 0 0 (fun _ => False) := by
  refine g_metRI hJ (by decide) (Nat.le_of_ble_eq_true rfl) ?_
  intro p e s m args below meth c QQ ls H C hw hl hret
  replace hl : lv_has ls 6 [(0, .ref (ad 0)), (1, .int x1), (2, .int x2)] := hl
  have J23 : ∀ (x1 : Int32) (x2 : Int32) (ls : Array Slot), z_links_p23 σ x1 x2 Q → lv_has ls 6 [(0, .ref (ad 0)), (1, .int x1), (2, .int x2)] → W p l e rm_z_links s m args below meth c H [] 0 0 QQ (F0 m 23 ls []) := by
    intro x1 x2 ls hf hl
    unfold z_links_p23 at hf
    refine lv_aload_n C.1 C.2.1 dX0_links_23 rfl (lv_at hl 0 rfl) ?_
    exact False.elim hf
  unfold z_links at hf
  refine lv_aload_n C.1 C.2.1 dX0_links_0 rfl (lv_at hl 0 rfl) ?_
  refine lv_iload_n C.1 C.2.1 dX0_links_1 rfl (lv_at hl 1 rfl) ?_
  refine kz_isLevel C hw hl.1 (Nat.le_of_ble_eq_true rfl) ⟨Nat.le_of_ble_eq_true rfl, Nat.le_of_ble_eq_true rfl⟩ dX0_links_2 ?_
  refine lv_if_eq (tgt := 21) C.1 C.2.1 dX0_links_5 (by decide) (fun h5 => ?_) (fun h5 => ?_)
  · replace hf := hf.1 h5
    refine lv_iconst (v := (-1)) C.1 C.2.1 dX0_links_21 rfl ?_
    exact hret _ _ _ hf dX0_links_22
  · replace hf := hf.2 h5
    refine lv_iload_n C.1 C.2.1 dX0_links_8 rfl (lv_at hl 2 rfl) ?_
    refine lv_iconst (v := (-1)) C.1 C.2.1 dX0_links_9 rfl ?_
    refine lv_icmp_eq (tgt := 23) C.1 C.2.1 dX0_links_10 (by decide) (fun h10 => ?_) (fun h10 => ?_)
    · replace hf := hf.1 h10
      exact J23 _ _ _ hf (lv_sub hl [0, 1, 2] rfl)
    · replace hf := hf.2 h10
      refine lv_aload_n C.1 C.2.1 dX0_links_13 rfl (lv_at hl 0 rfl) ?_
      refine lv_iload_n C.1 C.2.1 dX0_links_14 rfl (lv_at hl 2 rfl) ?_
      refine kz_isState C hw hl.1 (Nat.le_of_ble_eq_true rfl) ⟨Nat.le_of_ble_eq_true rfl, Nat.le_of_ble_eq_true rfl⟩ dX0_links_15 ?_
      refine lv_if_ne (tgt := 23) C.1 C.2.1 dX0_links_18 (by decide) (fun h18 => ?_) (fun h18 => ?_)
      · replace hf := hf.2 h18
        exact J23 _ _ _ hf (lv_sub hl [0, 1, 2] rfl)
      · replace hf := hf.1 h18
        refine lv_iconst (v := (-1)) C.1 C.2.1 dX0_links_21 rfl ?_
        exact hret _ _ _ hf dX0_links_22
def z_forest (σ : St) (x1 : Int32) (Q : Int32 → Prop) : Prop :=
  Q (-1)
abbrev rm_z_forest : Room := { frames := 1, cells := 0, slots := 0, locals := 25 }
set_option maxHeartbeats 4000000 in
theorem met_z_forest (l : Launch) (D : va_G) (ct : Ct) (ad : Nat → Nat) (hJ : gJ shZ ad ct) (σ : St) (x1 : Int32) (Q : Int32 → Prop) (hf : z_forest σ x1 Q) : Met l yX0_forest (ws_ yX0_forest cX0_forest 6 (some .int)) rm_z_forest (va_Pc [.ref (ad 0), .int x1] (gP D ct shZ ad σ)) (gR rvI Q) 0 0 (fun _ => False) := by
  refine g_metRI hJ (by decide) (Nat.le_of_ble_eq_true rfl) ?_
  intro p e s m args below meth c QQ ls H C hw hl hret
  replace hl : lv_has ls 6 [(0, .ref (ad 0)), (1, .int x1)] := hl
  unfold z_forest at hf
  refine lv_aload_n C.1 C.2.1 dX0_forest_0 rfl (lv_at hl 0 rfl) ?_
  refine zg_grammar C hw dX0_forest_1 ?_
  refine lv_ifnullN (tgt := 19) C.1 C.2.1 dX0_forest_4 (by decide) ?_
  refine lv_iconst (v := (-1)) C.1 C.2.1 dX0_forest_19 rfl ?_
  exact hret _ _ _ hf dX0_forest_20
def z_tree (σ : St) (x1 : Int32) (x2 : Int32) (Q : Int32 → Prop) : Prop :=
  Q (-1)
abbrev rm_z_tree : Room := { frames := 1, cells := 0, slots := 0, locals := 25 }
set_option maxHeartbeats 4000000 in
theorem met_z_tree (l : Launch) (D : va_G) (ct : Ct) (ad : Nat → Nat) (hJ : gJ shZ ad ct) (σ : St) (x1 : Int32) (x2 : Int32) (Q : Int32 → Prop) (hf : z_tree σ x1 x2 Q) : Met l yX0_tree (ws_ yX0_tree cX0_tree 5 (some .int)) rm_z_tree (va_Pc [.ref (ad 0), .int x1, .int x2] (gP D ct shZ ad σ)) (gR rvI Q) 0 0 (fun _ => False) := by
  refine g_metRI hJ (by decide) (Nat.le_of_ble_eq_true rfl) ?_
  intro p e s m args below meth c QQ ls H C hw hl hret
  replace hl : lv_has ls 5 [(0, .ref (ad 0)), (1, .int x1), (2, .int x2)] := hl
  unfold z_tree at hf
  refine lv_aload_n C.1 C.2.1 dX0_tree_0 rfl (lv_at hl 0 rfl) ?_
  refine zg_grammar C hw dX0_tree_1 ?_
  refine lv_ifnullN (tgt := 23) C.1 C.2.1 dX0_tree_4 (by decide) ?_
  refine lv_iconst (v := (-1)) C.1 C.2.1 dX0_tree_23 rfl ?_
  exact hret _ _ _ hf dX0_tree_24
def z_whole (σ : St) (Q : Int32 → Prop) : Prop :=
  Q (-1)
abbrev rm_z_whole : Room := { frames := 1, cells := 0, slots := 0, locals := 21 }
set_option maxHeartbeats 4000000 in
theorem met_z_whole (l : Launch) (D : va_G) (ct : Ct) (ad : Nat → Nat) (hJ : gJ shZ ad ct) (σ : St) (Q : Int32 → Prop) (hf : z_whole σ Q) : Met l yX0_whole (ws_ yX0_whole cX0_whole 2 (some .int)) rm_z_whole (va_Pc [.ref (ad 0)] (gP D ct shZ ad σ)) (gR rvI Q) 0 0 (fun _ => False) := by
  refine g_metRI hJ (by decide) (Nat.le_of_ble_eq_true rfl) ?_
  intro p e s m args below meth c QQ ls H C hw hl hret
  replace hl : lv_has ls 2 [(0, .ref (ad 0))] := hl
  unfold z_whole at hf
  refine lv_aload_n C.1 C.2.1 dX0_whole_0 rfl (lv_at hl 0 rfl) ?_
  refine zg_grammar C hw dX0_whole_1 ?_
  refine lv_ifnonnullN C.1 C.2.1 dX0_whole_4 ?_
  refine lv_iconst (v := (-1)) C.1 C.2.1 dX0_whole_7 rfl ?_
  exact hret _ _ _ hf dX0_whole_8
def z_spoken (σ : St) (x1 : Int32) (x2 : Int32) (Q : Int32 → St → Prop) : Prop :=
  Q (-3) σ
abbrev rm_z_spoken : Room := { frames := 1, cells := 0, slots := 0, locals := 25 }
set_option maxHeartbeats 4000000 in
theorem met_z_spoken (l : Launch) (D : va_G) (ct : Ct) (ad : Nat → Nat) (hJ : gJ shZ ad ct) (σ : St) (x1 : Int32) (x2 : Int32) (Q : Int32 → St → Prop) (hf : z_spoken σ x1 x2 Q) : Met l yX0_spoken (ws_ yX0_spoken cX0_spoken 5 (some .int)) rm_z_spoken (va_Pc [.ref (ad 0), .int x1, .int x2] (gP D ct shZ ad σ)) (gQ rvI D ct shZ ad Q) 0 0 (gA shZ ad) := by
  refine g_metI hJ (by decide) (Nat.le_of_ble_eq_true rfl) ?_
  intro p e s m args below meth c QQ ls C hw hl hret
  replace hl : lv_has ls 5 [(0, .ref (ad 0)), (1, .int x1), (2, .int x2)] := hl
  unfold z_spoken at hf
  obtain ⟨H, hH⟩ : ∃ q, q = s.heap := ⟨_, rfl⟩
  obtain ⟨locs, hL⟩ : ∃ q : List Loc, q = [] := ⟨_, rfl⟩
  rw [← hH, ← hL] at hw ⊢
  refine lv_aload_n C.1 C.2.1 dX0_spoken_0 rfl (lv_at hl 0 rfl) ?_
  refine zg_grammar C hw dX0_spoken_1 ?_
  refine lv_ifnullN (tgt := 33) C.1 C.2.1 dX0_spoken_4 (by decide) ?_
  refine lv_bipush (v := (-3)) C.1 C.2.1 dX0_spoken_33 rfl ?_
  exact hret _ _ _ _ _ _ hf hw dX0_spoken_35
def z_feed (σ : St) (x1 : Int32) (x2 : Int32) (x3 : Int32) (x4 : Int32) (x5 : Int32) (Q : Int32 → St → Prop) : Prop :=
  ((((σ.1 14) + 20) ≤ 400 → (z_four σ x1 (fun _ s17 => (z_four s17 x2 (fun _ s22 => (z_four s22 x3 (fun _ s27 => (z_four s27 x4 (fun _ s33 => (z_four s33 x5 (fun _ s39 => Q (s39.1 14) s39))))))))))) ∧ (¬ ((σ.1 14) + 20) ≤ 400 → Q (-1) σ))
abbrev rm_z_feed : Room := { frames := 1, cells := 0, slots := 0, locals := 22 }
set_option maxHeartbeats 4000000 in
theorem met_z_feed (l : Launch) (D : va_G) (ct : Ct) (ad : Nat → Nat) (hJ : gJ shZ ad ct) (σ : St) (x1 : Int32) (x2 : Int32) (x3 : Int32) (x4 : Int32) (x5 : Int32) (Q : Int32 → St → Prop) (hf : z_feed σ x1 x2 x3 x4 x5 Q) : Met l yX0_feed (ws_ yX0_feed cX0_feed 6 (some .int)) rm_z_feed (va_Pc [.ref (ad 0), .int x1, .int x2, .int x3, .int x4, .int x5] (gP D ct shZ ad σ)) (gQ rvI D ct shZ ad Q) 0 0 (gA shZ ad) := by
  refine g_metI hJ (by decide) (Nat.le_of_ble_eq_true rfl) ?_
  intro p e s m args below meth c QQ ls C hw hl hret
  replace hl : lv_has ls 6 [(0, .ref (ad 0)), (1, .int x1), (2, .int x2), (3, .int x3), (4, .int x4), (5, .int x5)] := hl
  unfold z_feed at hf
  obtain ⟨H, hH⟩ : ∃ q, q = s.heap := ⟨_, rfl⟩
  obtain ⟨locs, hL⟩ : ∃ q : List Loc, q = [] := ⟨_, rfl⟩
  rw [← hH, ← hL] at hw ⊢
  refine lv_aload_n C.1 C.2.1 dX0_feed_0 rfl (lv_at hl 0 rfl) ?_
  refine zg_taped C hw dX0_feed_1 ?_
  refine lv_bipush (v := 20) C.1 C.2.1 dX0_feed_4 rfl ?_
  refine lv_iadd C.1 C.2.1 dX0_feed_6 ?_
  refine lv_sipush (v := 400) C.1 C.2.1 dX0_feed_7 rfl ?_
  refine lv_icmp_le (tgt := 15) C.1 C.2.1 dX0_feed_10 (by decide) (fun h10 => ?_) (fun h10 => ?_)
  · replace hf := hf.1 h10
    refine lv_aload_n C.1 C.2.1 dX0_feed_15 rfl (lv_at hl 0 rfl) ?_
    refine lv_iload_n C.1 C.2.1 dX0_feed_16 rfl (lv_at hl 1 rfl) ?_
    refine kz_four C hw hl.1 (Nat.le_of_ble_eq_true rfl) ⟨Nat.le_of_ble_eq_true rfl, Nat.le_of_ble_eq_true rfl⟩ dX0_feed_17 hf (fun _ s17 H locs hf hw => ?_)
    refine lv_aload_n C.1 C.2.1 dX0_feed_20 rfl (lv_at hl 0 rfl) ?_
    refine lv_iload_n C.1 C.2.1 dX0_feed_21 rfl (lv_at hl 2 rfl) ?_
    refine kz_four C hw hl.1 (Nat.le_of_ble_eq_true rfl) ⟨Nat.le_of_ble_eq_true rfl, Nat.le_of_ble_eq_true rfl⟩ dX0_feed_22 hf (fun _ s22 H locs hf hw => ?_)
    refine lv_aload_n C.1 C.2.1 dX0_feed_25 rfl (lv_at hl 0 rfl) ?_
    refine lv_iload_n C.1 C.2.1 dX0_feed_26 rfl (lv_at hl 3 rfl) ?_
    refine kz_four C hw hl.1 (Nat.le_of_ble_eq_true rfl) ⟨Nat.le_of_ble_eq_true rfl, Nat.le_of_ble_eq_true rfl⟩ dX0_feed_27 hf (fun _ s27 H locs hf hw => ?_)
    refine lv_aload_n C.1 C.2.1 dX0_feed_30 rfl (lv_at hl 0 rfl) ?_
    refine lv_iload C.1 C.2.1 dX0_feed_31 (lv_at hl 4 rfl) ?_
    refine kz_four C hw hl.1 (Nat.le_of_ble_eq_true rfl) ⟨Nat.le_of_ble_eq_true rfl, Nat.le_of_ble_eq_true rfl⟩ dX0_feed_33 hf (fun _ s33 H locs hf hw => ?_)
    refine lv_aload_n C.1 C.2.1 dX0_feed_36 rfl (lv_at hl 0 rfl) ?_
    refine lv_iload C.1 C.2.1 dX0_feed_37 (lv_at hl 5 rfl) ?_
    refine kz_four C hw hl.1 (Nat.le_of_ble_eq_true rfl) ⟨Nat.le_of_ble_eq_true rfl, Nat.le_of_ble_eq_true rfl⟩ dX0_feed_39 hf (fun _ s39 H locs hf hw => ?_)
    refine lv_aload_n C.1 C.2.1 dX0_feed_42 rfl (lv_at hl 0 rfl) ?_
    refine zg_taped C hw dX0_feed_43 ?_
    exact hret _ _ _ _ _ _ hf hw dX0_feed_46
  · replace hf := hf.2 h10
    refine lv_iconst (v := (-1)) C.1 C.2.1 dX0_feed_13 rfl ?_
    exact hret _ _ _ _ _ _ hf hw dX0_feed_14
def z_firsts (σ : St) (x1 : Int32) (Q : Int32 → Prop) : Prop :=
  (((fz_isLeft σ x1) = 0 → Q (-1)) ∧ (¬ (fz_isLeft σ x1) = 0 → (vp_in (x1 - 26) 26 ∧ Q (gI σ 20 (x1 - 26)))))
abbrev rm_z_firsts : Room := { frames := 2, cells := 0, slots := 0, locals := 46 }
set_option maxHeartbeats 4000000 in
theorem met_z_firsts (l : Launch) (D : va_G) (ct : Ct) (ad : Nat → Nat) (hJ : gJ shZ ad ct) (σ : St) (x1 : Int32) (Q : Int32 → Prop) (hf : z_firsts σ x1 Q) : Met l yX0_firsts (ws_ yX0_firsts cX0_firsts 2 (some .int)) rm_z_firsts (va_Pc [.ref (ad 0), .int x1] (gP D ct shZ ad σ)) (gR rvI Q) 0 0 (fun _ => False) := by
  refine g_metRI hJ (by decide) (Nat.le_of_ble_eq_true rfl) ?_
  intro p e s m args below meth c QQ ls H C hw hl hret
  replace hl : lv_has ls 2 [(0, .ref (ad 0)), (1, .int x1)] := hl
  unfold z_firsts at hf
  refine lv_aload_n C.1 C.2.1 dX0_firsts_0 rfl (lv_at hl 0 rfl) ?_
  refine lv_iload_n C.1 C.2.1 dX0_firsts_1 rfl (lv_at hl 1 rfl) ?_
  refine kz_isLeft C hw hl.1 (Nat.le_of_ble_eq_true rfl) ⟨Nat.le_of_ble_eq_true rfl, Nat.le_of_ble_eq_true rfl⟩ dX0_firsts_2 ?_
  refine lv_if_eq (tgt := 20) C.1 C.2.1 dX0_firsts_5 (by decide) (fun h5 => ?_) (fun h5 => ?_)
  · replace hf := hf.1 h5
    refine lv_iconst (v := (-1)) C.1 C.2.1 dX0_firsts_20 rfl ?_
    exact hret _ _ _ hf dX0_firsts_21
  · replace hf := hf.2 h5
    refine lv_aload_n C.1 C.2.1 dX0_firsts_8 rfl (lv_at hl 0 rfl) ?_
    refine zg_firstOf C hw dX0_firsts_9 ?_
    refine lv_iload_n C.1 C.2.1 dX0_firsts_12 rfl (lv_at hl 1 rfl) ?_
    refine lv_bipush (v := 26) C.1 C.2.1 dX0_firsts_13 rfl ?_
    refine lv_isub C.1 C.2.1 dX0_firsts_15 ?_
    obtain ⟨b16, hf⟩ := hf
    refine g_iald C hw 20 rfl b16 dX0_firsts_16 ?_
    refine lv_goto (tgt := 21) C.1 C.2.1 dX0_firsts_17 (by decide) ?_
    exact hret _ _ _ hf dX0_firsts_21
def z_follows (σ : St) (x1 : Int32) (Q : Int32 → Prop) : Prop :=
  (((fz_isLeft σ x1) = 0 → Q (-1)) ∧ (¬ (fz_isLeft σ x1) = 0 → (vp_in (x1 - 26) 26 ∧ Q (gI σ 21 (x1 - 26)))))
abbrev rm_z_follows : Room := { frames := 2, cells := 0, slots := 0, locals := 46 }
set_option maxHeartbeats 4000000 in
theorem met_z_follows (l : Launch) (D : va_G) (ct : Ct) (ad : Nat → Nat) (hJ : gJ shZ ad ct) (σ : St) (x1 : Int32) (Q : Int32 → Prop) (hf : z_follows σ x1 Q) : Met l yX0_follows (ws_ yX0_follows cX0_follows 2 (some .int)) rm_z_follows (va_Pc [.ref (ad 0), .int x1] (gP D ct shZ ad σ)) (gR rvI Q) 0 0 (fun _ => False) := by
  refine g_metRI hJ (by decide) (Nat.le_of_ble_eq_true rfl) ?_
  intro p e s m args below meth c QQ ls H C hw hl hret
  replace hl : lv_has ls 2 [(0, .ref (ad 0)), (1, .int x1)] := hl
  unfold z_follows at hf
  refine lv_aload_n C.1 C.2.1 dX0_follows_0 rfl (lv_at hl 0 rfl) ?_
  refine lv_iload_n C.1 C.2.1 dX0_follows_1 rfl (lv_at hl 1 rfl) ?_
  refine kz_isLeft C hw hl.1 (Nat.le_of_ble_eq_true rfl) ⟨Nat.le_of_ble_eq_true rfl, Nat.le_of_ble_eq_true rfl⟩ dX0_follows_2 ?_
  refine lv_if_eq (tgt := 20) C.1 C.2.1 dX0_follows_5 (by decide) (fun h5 => ?_) (fun h5 => ?_)
  · replace hf := hf.1 h5
    refine lv_iconst (v := (-1)) C.1 C.2.1 dX0_follows_20 rfl ?_
    exact hret _ _ _ hf dX0_follows_21
  · replace hf := hf.2 h5
    refine lv_aload_n C.1 C.2.1 dX0_follows_8 rfl (lv_at hl 0 rfl) ?_
    refine zg_followOf C hw dX0_follows_9 ?_
    refine lv_iload_n C.1 C.2.1 dX0_follows_12 rfl (lv_at hl 1 rfl) ?_
    refine lv_bipush (v := 26) C.1 C.2.1 dX0_follows_13 rfl ?_
    refine lv_isub C.1 C.2.1 dX0_follows_15 ?_
    obtain ⟨b16, hf⟩ := hf
    refine g_iald C hw 21 rfl b16 dX0_follows_16 ?_
    refine lv_goto (tgt := 21) C.1 C.2.1 dX0_follows_17 (by decide) ?_
    exact hret _ _ _ hf dX0_follows_21
def z_shortest (σ : St) (x1 : Int32) (Q : Int32 → Prop) : Prop :=
  (((fz_isLeft σ x1) = 0 → Q (-1)) ∧ (¬ (fz_isLeft σ x1) = 0 → (vp_in (x1 - 26) 26 ∧ (((gI σ 22 (x1 - 26)) < 2000000000 → Q (gI σ 22 (x1 - 26))) ∧ (¬ (gI σ 22 (x1 - 26)) < 2000000000 → Q (-2))))))
abbrev rm_z_shortest : Room := { frames := 2, cells := 0, slots := 0, locals := 46 }
set_option maxHeartbeats 4000000 in
theorem met_z_shortest (l : Launch) (D : va_G) (ct : Ct) (ad : Nat → Nat) (hJ : gJ shZ ad ct) (σ : St) (x1 : Int32) (Q : Int32 → Prop) (hf : z_shortest σ x1 Q) : Met l yX0_shortest (ws_ yX0_shortest cX0_shortest 2 (some .int)) rm_z_shortest (va_Pc [.ref (ad 0), .int x1] (gP D ct shZ ad σ)) (gR rvI Q) 0 0 (fun _ => False) := by
  refine g_metRI hJ (by decide) (Nat.le_of_ble_eq_true rfl) ?_
  intro p e s m args below meth c QQ ls H C hw hl hret
  replace hl : lv_has ls 2 [(0, .ref (ad 0)), (1, .int x1)] := hl
  unfold z_shortest at hf
  refine lv_aload_n C.1 C.2.1 dX0_shortest_0 rfl (lv_at hl 0 rfl) ?_
  refine lv_iload_n C.1 C.2.1 dX0_shortest_1 rfl (lv_at hl 1 rfl) ?_
  refine kz_isLeft C hw hl.1 (Nat.le_of_ble_eq_true rfl) ⟨Nat.le_of_ble_eq_true rfl, Nat.le_of_ble_eq_true rfl⟩ dX0_shortest_2 ?_
  refine lv_if_ne (tgt := 10) C.1 C.2.1 dX0_shortest_5 (by decide) (fun h5 => ?_) (fun h5 => ?_)
  · replace hf := hf.2 h5
    refine lv_aload_n C.1 C.2.1 dX0_shortest_10 rfl (lv_at hl 0 rfl) ?_
    refine zg_shortOf C hw dX0_shortest_11 ?_
    refine lv_iload_n C.1 C.2.1 dX0_shortest_14 rfl (lv_at hl 1 rfl) ?_
    refine lv_bipush (v := 26) C.1 C.2.1 dX0_shortest_15 rfl ?_
    refine lv_isub C.1 C.2.1 dX0_shortest_17 ?_
    obtain ⟨b18, hf⟩ := hf
    refine g_iald C hw 22 rfl b18 dX0_shortest_18 ?_
    refine lv_ldc C.1 C.2.1 C.2.2.2.1 (C.2.2.2.2 _ q355) dX0_shortest_19 ?_
    refine lv_icmp_lt (tgt := 29) C.1 C.2.1 dX0_shortest_21 (by decide) (fun h21 => ?_) (fun h21 => ?_)
    · replace hf := hf.1 h21
      refine lv_aload_n C.1 C.2.1 dX0_shortest_29 rfl (lv_at hl 0 rfl) ?_
      refine zg_shortOf C hw dX0_shortest_30 ?_
      refine lv_iload_n C.1 C.2.1 dX0_shortest_33 rfl (lv_at hl 1 rfl) ?_
      refine lv_bipush (v := 26) C.1 C.2.1 dX0_shortest_34 rfl ?_
      refine lv_isub C.1 C.2.1 dX0_shortest_36 ?_
      refine g_iald C hw 22 rfl b18 dX0_shortest_37 ?_
      exact hret _ _ _ hf dX0_shortest_38
    · replace hf := hf.2 h21
      refine lv_bipush (v := (-2)) C.1 C.2.1 dX0_shortest_24 rfl ?_
      refine lv_goto (tgt := 38) C.1 C.2.1 dX0_shortest_26 (by decide) ?_
      exact hret _ _ _ hf dX0_shortest_38
  · replace hf := hf.1 h5
    refine lv_iconst (v := (-1)) C.1 C.2.1 dX0_shortest_8 rfl ?_
    exact hret _ _ _ hf dX0_shortest_9
def z_read (σ : St) (x1 : Int32) (Q : Int32 → Prop) : Prop :=
  Q (-1)
abbrev rm_z_read : Room := { frames := 2, cells := 0, slots := 0, locals := 45 }
set_option maxHeartbeats 4000000 in
theorem met_z_read (l : Launch) (D : va_G) (ct : Ct) (ad : Nat → Nat) (hJ : gJ shZ ad ct) (σ : St) (x1 : Int32) (Q : Int32 → Prop) (hf : z_read σ x1 Q) : Met l yX0_read (ws_ yX0_read cX0_read 2 (some .int)) rm_z_read (va_Pc [.ref (ad 0), .int x1] (gP D ct shZ ad σ)) (gR rvI Q) 0 0 (fun _ => False) := by
  refine g_metRI hJ (by decide) (Nat.le_of_ble_eq_true rfl) ?_
  intro p e s m args below meth c QQ ls H C hw hl hret
  replace hl : lv_has ls 2 [(0, .ref (ad 0)), (1, .int x1)] := hl
  unfold z_read at hf
  refine lv_aload_n C.1 C.2.1 dX0_read_0 rfl (lv_at hl 0 rfl) ?_
  refine zg_grammar C hw dX0_read_1 ?_
  refine lv_ifnullN (tgt := 23) C.1 C.2.1 dX0_read_4 (by decide) ?_
  refine lv_iconst (v := (-1)) C.1 C.2.1 dX0_read_23 rfl ?_
  exact hret _ _ _ hf dX0_read_24
def fz_read (σ : St) (x1 : Int32) : Int32 :=
  (-1)
theorem z_read_f {Q : Int32 → Prop} {σ : St} {x1 : Int32} (h : Q (fz_read σ x1)) : z_read σ x1 Q := by
  unfold fz_read at h
  unfold z_read
  exact h
def z_change (σ : St) (x1 : Int32) (x2 : Int32) (Q : Int32 → Prop) : Prop :=
  ((x1 < 0 → Q (-1)) ∧ (¬ x1 < 0 → (((σ.1 4) ≤ x1 → Q (-1)) ∧ (¬ (σ.1 4) ≤ x1 → (((fz_isSmall x2) = 0 → Q (-1)) ∧ (¬ (fz_isSmall x2) = 0 → (vp_in x1 12 ∧ (((gI σ 3 x1) = x2 → Q (-1)) ∧ (¬ (gI σ 3 x1) = x2 → False)))))))))
abbrev rm_z_change : Room := { frames := 2, cells := 0, slots := 0, locals := 45 }
set_option maxHeartbeats 4000000 in
theorem met_z_change (l : Launch) (D : va_G) (ct : Ct) (ad : Nat → Nat) (hJ : gJ shZ ad ct) (σ : St) (x1 : Int32) (x2 : Int32) (Q : Int32 → Prop) (hf : z_change σ x1 x2 Q) : Met l yX0_change (ws_ yX0_change cX0_change 4 (some .int)) rm_z_change (va_Pc [.ref (ad 0), .int x1, .int x2] (gP D ct shZ ad σ)) (gR rvI Q) 0 0 (fun _ => False) := by
  refine g_metRI hJ (by decide) (Nat.le_of_ble_eq_true rfl) ?_
  intro p e s m args below meth c QQ ls H C hw hl hret
  replace hl : lv_has ls 4 [(0, .ref (ad 0)), (1, .int x1), (2, .int x2)] := hl
  unfold z_change at hf
  refine lv_iload_n C.1 C.2.1 dX0_change_0 rfl (lv_at hl 1 rfl) ?_
  refine lv_if_lt (tgt := 29) C.1 C.2.1 dX0_change_1 (by decide) (fun h1 => ?_) (fun h1 => ?_)
  · replace hf := hf.1 h1
    refine lv_iconst (v := (-1)) C.1 C.2.1 dX0_change_29 rfl ?_
    exact hret _ _ _ hf dX0_change_30
  · replace hf := hf.2 h1
    refine lv_iload_n C.1 C.2.1 dX0_change_4 rfl (lv_at hl 1 rfl) ?_
    refine lv_aload_n C.1 C.2.1 dX0_change_5 rfl (lv_at hl 0 rfl) ?_
    refine zg_textMany C hw dX0_change_6 ?_
    refine lv_icmp_ge (tgt := 29) C.1 C.2.1 dX0_change_9 (by decide) (fun h9 => ?_) (fun h9 => ?_)
    · replace hf := hf.1 h9
      refine lv_iconst (v := (-1)) C.1 C.2.1 dX0_change_29 rfl ?_
      exact hret _ _ _ hf dX0_change_30
    · replace hf := hf.2 h9
      refine lv_iload_n C.1 C.2.1 dX0_change_12 rfl (lv_at hl 2 rfl) ?_
      refine kz_isSmall C hl.1 (Nat.le_of_ble_eq_true rfl) ⟨Nat.le_of_ble_eq_true rfl, Nat.le_of_ble_eq_true rfl⟩ dX0_change_13 ?_
      refine lv_if_eq (tgt := 29) C.1 C.2.1 dX0_change_16 (by decide) (fun h16 => ?_) (fun h16 => ?_)
      · replace hf := hf.1 h16
        refine lv_iconst (v := (-1)) C.1 C.2.1 dX0_change_29 rfl ?_
        exact hret _ _ _ hf dX0_change_30
      · replace hf := hf.2 h16
        refine lv_aload_n C.1 C.2.1 dX0_change_19 rfl (lv_at hl 0 rfl) ?_
        refine zg_text C hw dX0_change_20 ?_
        refine lv_iload_n C.1 C.2.1 dX0_change_23 rfl (lv_at hl 1 rfl) ?_
        obtain ⟨b24, hf⟩ := hf
        refine g_iald C hw 3 rfl b24 dX0_change_24 ?_
        refine lv_iload_n C.1 C.2.1 dX0_change_25 rfl (lv_at hl 2 rfl) ?_
        refine lv_icmp_ne (tgt := 31) C.1 C.2.1 dX0_change_26 (by decide) (fun h26 => ?_) (fun h26 => ?_)
        · replace hf := hf.2 h26
          refine lv_aload_n C.1 C.2.1 dX0_change_31 rfl (lv_at hl 0 rfl) ?_
          refine zg_text C hw dX0_change_32 ?_
          refine lv_iload_n C.1 C.2.1 dX0_change_35 rfl (lv_at hl 1 rfl) ?_
          refine g_iald C hw 3 rfl b24 dX0_change_36 ?_
          refine lv_istore_n (lv' := [(3, .int (gI σ 3 x1)), (0, .ref (ad 0)), (1, .int x1), (2, .int x2)]) C.1 C.2.1 dX0_change_37 rfl hl (Nat.le_of_ble_eq_true rfl) rfl (fun ls hl => ?_)
          refine lv_aload_n C.1 C.2.1 dX0_change_38 rfl (lv_at hl 1 rfl) ?_
          refine lv_aload_n C.1 C.2.1 dX0_change_39 rfl (lv_at hl 1 rfl) ?_
          refine lv_iload_n C.1 C.2.1 dX0_change_40 rfl (lv_at hl 2 rfl) ?_
          refine lv_iload_n C.1 C.2.1 dX0_change_41 rfl (lv_at hl 0 rfl) ?_
          exact False.elim hf
        · replace hf := hf.1 h26
          refine lv_iconst (v := (-1)) C.1 C.2.1 dX0_change_29 rfl ?_
          exact hret _ _ _ hf dX0_change_30
def z_ban (σ : St) (x1 : Int32) (x2 : Int32) (x3 : Int32) (Q : Int32 → St → Prop) : Prop :=
  (z_canBan σ x1 x2 x3 (fun r4 => ((r4 = 0 → Q (-1) σ) ∧ (¬ r4 = 0 → False))))
abbrev rm_z_ban : Room := { frames := 2, cells := 0, slots := 0, locals := 64 }
set_option maxHeartbeats 4000000 in
theorem met_z_ban (l : Launch) (D : va_G) (ct : Ct) (ad : Nat → Nat) (hJ : gJ shZ ad ct) (σ : St) (x1 : Int32) (x2 : Int32) (x3 : Int32) (Q : Int32 → St → Prop) (hf : z_ban σ x1 x2 x3 Q) : Met l yX0_ban (ws_ yX0_ban cX0_ban 8 (some .int)) rm_z_ban (va_Pc [.ref (ad 0), .int x1, .int x2, .int x3] (gP D ct shZ ad σ)) (gQ rvI D ct shZ ad Q) 0 0 (gA shZ ad) := by
  refine g_metI hJ (by decide) (Nat.le_of_ble_eq_true rfl) ?_
  intro p e s m args below meth c QQ ls C hw hl hret
  replace hl : lv_has ls 8 [(0, .ref (ad 0)), (1, .int x1), (2, .int x2), (3, .int x3)] := hl
  unfold z_ban at hf
  obtain ⟨H, hH⟩ : ∃ q, q = s.heap := ⟨_, rfl⟩
  obtain ⟨locs, hL⟩ : ∃ q : List Loc, q = [] := ⟨_, rfl⟩
  rw [← hH, ← hL] at hw ⊢
  refine lv_aload_n C.1 C.2.1 dX0_ban_0 rfl (lv_at hl 0 rfl) ?_
  refine lv_iload_n C.1 C.2.1 dX0_ban_1 rfl (lv_at hl 1 rfl) ?_
  refine lv_iload_n C.1 C.2.1 dX0_ban_2 rfl (lv_at hl 2 rfl) ?_
  refine lv_iload_n C.1 C.2.1 dX0_ban_3 rfl (lv_at hl 3 rfl) ?_
  refine kz_canBan C hw hl.1 (Nat.le_of_ble_eq_true rfl) ⟨Nat.le_of_ble_eq_true rfl, Nat.le_of_ble_eq_true rfl⟩ dX0_ban_4 hf (fun r4 hf => ?_)
  refine lv_if_ne (tgt := 12) C.1 C.2.1 dX0_ban_7 (by decide) (fun h7 => ?_) (fun h7 => ?_)
  · replace hf := hf.2 h7
    refine lv_aload_n C.1 C.2.1 dX0_ban_12 rfl (lv_at hl 0 rfl) ?_
    refine zg_bans C hw dX0_ban_13 ?_
    refine lv_astore (lv' := [(4, .ref (ad 6)), (0, .ref (ad 0)), (1, .int x1), (2, .int x2), (3, .int x3)]) C.1 C.2.1 dX0_ban_16 hl (Nat.le_of_ble_eq_true rfl) rfl (fun ls hl => ?_)
    refine lv_aload_n C.1 C.2.1 dX0_ban_18 rfl (lv_at hl 1 rfl) ?_
    refine zg_banMany C hw dX0_ban_19 ?_
    refine lv_istore (lv' := [(5, .int (σ.1 7)), (4, .ref (ad 6)), (0, .ref (ad 0)), (1, .int x1), (2, .int x2), (3, .int x3)]) C.1 C.2.1 dX0_ban_22 hl (Nat.le_of_ble_eq_true rfl) rfl (fun ls hl => ?_)
    refine lv_aload C.1 C.2.1 dX0_ban_24 (lv_at hl 1 rfl) ?_
    exact False.elim hf
  · replace hf := hf.1 h7
    refine lv_iconst (v := (-1)) C.1 C.2.1 dX0_ban_10 rfl ?_
    exact hret _ _ _ _ _ _ hf hw dX0_ban_11
def z_expects (σ : St) (x1 : Int32) (Q : Int32 → Prop) : Prop :=
  (((fz_isLevel σ x1) = 0 → Q (-1)) ∧ (¬ (fz_isLevel σ x1) = 0 → False))
abbrev rm_z_expects : Room := { frames := 2, cells := 0, slots := 0, locals := 45 }
set_option maxHeartbeats 4000000 in
theorem met_z_expects (l : Launch) (D : va_G) (ct : Ct) (ad : Nat → Nat) (hJ : gJ shZ ad ct) (σ : St) (x1 : Int32) (Q : Int32 → Prop) (hf : z_expects σ x1 Q) : Met l yX0_expects (ws_ yX0_expects cX0_expects 4 (some .int)) rm_z_expects (va_Pc [.ref (ad 0), .int x1] (gP D ct shZ ad σ)) (gR rvI Q) 0 0 (fun _ => False) := by
  refine g_metRI hJ (by decide) (Nat.le_of_ble_eq_true rfl) ?_
  intro p e s m args below meth c QQ ls H C hw hl hret
  replace hl : lv_has ls 4 [(0, .ref (ad 0)), (1, .int x1)] := hl
  unfold z_expects at hf
  refine lv_aload_n C.1 C.2.1 dX0_expects_0 rfl (lv_at hl 0 rfl) ?_
  refine lv_iload_n C.1 C.2.1 dX0_expects_1 rfl (lv_at hl 1 rfl) ?_
  refine kz_isLevel C hw hl.1 (Nat.le_of_ble_eq_true rfl) ⟨Nat.le_of_ble_eq_true rfl, Nat.le_of_ble_eq_true rfl⟩ dX0_expects_2 ?_
  refine lv_if_ne (tgt := 10) C.1 C.2.1 dX0_expects_5 (by decide) (fun h5 => ?_) (fun h5 => ?_)
  · replace hf := hf.2 h5
    refine lv_aload_n C.1 C.2.1 dX0_expects_10 rfl (lv_at hl 0 rfl) ?_
    exact False.elim hf
  · replace hf := hf.1 h5
    refine lv_iconst (v := (-1)) C.1 C.2.1 dX0_expects_8 rfl ?_
    exact hret _ _ _ hf dX0_expects_9
def z_derives (σ : St) (x1 : Int32) (x2 : Int32) (x3 : Int32) (Q : Int32 → Prop) : Prop :=
  (((fz_isLeft σ x1) = 0 → Q (-1)) ∧ (¬ (fz_isLeft σ x1) = 0 → (((fz_isSpan σ x2 x3) = 0 → Q (-1)) ∧ (¬ (fz_isSpan σ x2 x3) = 0 → False))))
abbrev rm_z_derives : Room := { frames := 2, cells := 0, slots := 0, locals := 46 }
set_option maxHeartbeats 4000000 in
theorem met_z_derives (l : Launch) (D : va_G) (ct : Ct) (ad : Nat → Nat) (hJ : gJ shZ ad ct) (σ : St) (x1 : Int32) (x2 : Int32) (x3 : Int32) (Q : Int32 → Prop) (hf : z_derives σ x1 x2 x3 Q) : Met l yX0_derives (ws_ yX0_derives cX0_derives 4 (some .int)) rm_z_derives (va_Pc [.ref (ad 0), .int x1, .int x2, .int x3] (gP D ct shZ ad σ)) (gR rvI Q) 0 0 (fun _ => False) := by
  refine g_metRI hJ (by decide) (Nat.le_of_ble_eq_true rfl) ?_
  intro p e s m args below meth c QQ ls H C hw hl hret
  replace hl : lv_has ls 4 [(0, .ref (ad 0)), (1, .int x1), (2, .int x2), (3, .int x3)] := hl
  unfold z_derives at hf
  refine lv_aload_n C.1 C.2.1 dX0_derives_0 rfl (lv_at hl 0 rfl) ?_
  refine lv_iload_n C.1 C.2.1 dX0_derives_1 rfl (lv_at hl 1 rfl) ?_
  refine kz_isLeft C hw hl.1 (Nat.le_of_ble_eq_true rfl) ⟨Nat.le_of_ble_eq_true rfl, Nat.le_of_ble_eq_true rfl⟩ dX0_derives_2 ?_
  refine lv_if_eq (tgt := 17) C.1 C.2.1 dX0_derives_5 (by decide) (fun h5 => ?_) (fun h5 => ?_)
  · replace hf := hf.1 h5
    refine lv_iconst (v := (-1)) C.1 C.2.1 dX0_derives_17 rfl ?_
    exact hret _ _ _ hf dX0_derives_18
  · replace hf := hf.2 h5
    refine lv_aload_n C.1 C.2.1 dX0_derives_8 rfl (lv_at hl 0 rfl) ?_
    refine lv_iload_n C.1 C.2.1 dX0_derives_9 rfl (lv_at hl 2 rfl) ?_
    refine lv_iload_n C.1 C.2.1 dX0_derives_10 rfl (lv_at hl 3 rfl) ?_
    refine kz_isSpan C hw hl.1 (Nat.le_of_ble_eq_true rfl) ⟨Nat.le_of_ble_eq_true rfl, Nat.le_of_ble_eq_true rfl⟩ dX0_derives_11 ?_
    refine lv_if_ne (tgt := 19) C.1 C.2.1 dX0_derives_14 (by decide) (fun h14 => ?_) (fun h14 => ?_)
    · replace hf := hf.2 h14
      refine lv_aload_n C.1 C.2.1 dX0_derives_19 rfl (lv_at hl 0 rfl) ?_
      exact False.elim hf
    · replace hf := hf.1 h14
      refine lv_iconst (v := (-1)) C.1 C.2.1 dX0_derives_17 rfl ?_
      exact hret _ _ _ hf dX0_derives_18
def z_trees (σ : St) (x1 : Int32) (x2 : Int32) (x3 : Int32) (Q : Int32 → Prop) : Prop :=
  (((fz_isLeft σ x1) = 0 → Q (-1)) ∧ (¬ (fz_isLeft σ x1) = 0 → (((fz_isSpan σ x2 x3) = 0 → Q (-1)) ∧ (¬ (fz_isSpan σ x2 x3) = 0 → False))))
abbrev rm_z_trees : Room := { frames := 2, cells := 0, slots := 0, locals := 46 }
set_option maxHeartbeats 4000000 in
theorem met_z_trees (l : Launch) (D : va_G) (ct : Ct) (ad : Nat → Nat) (hJ : gJ shZ ad ct) (σ : St) (x1 : Int32) (x2 : Int32) (x3 : Int32) (Q : Int32 → Prop) (hf : z_trees σ x1 x2 x3 Q) : Met l yX0_trees (ws_ yX0_trees cX0_trees 6 (some .int)) rm_z_trees (va_Pc [.ref (ad 0), .int x1, .int x2, .int x3] (gP D ct shZ ad σ)) (gR rvI Q) 0 0 (fun _ => False) := by
  refine g_metRI hJ (by decide) (Nat.le_of_ble_eq_true rfl) ?_
  intro p e s m args below meth c QQ ls H C hw hl hret
  replace hl : lv_has ls 6 [(0, .ref (ad 0)), (1, .int x1), (2, .int x2), (3, .int x3)] := hl
  unfold z_trees at hf
  refine lv_aload_n C.1 C.2.1 dX0_trees_0 rfl (lv_at hl 0 rfl) ?_
  refine lv_iload_n C.1 C.2.1 dX0_trees_1 rfl (lv_at hl 1 rfl) ?_
  refine kz_isLeft C hw hl.1 (Nat.le_of_ble_eq_true rfl) ⟨Nat.le_of_ble_eq_true rfl, Nat.le_of_ble_eq_true rfl⟩ dX0_trees_2 ?_
  refine lv_if_eq (tgt := 17) C.1 C.2.1 dX0_trees_5 (by decide) (fun h5 => ?_) (fun h5 => ?_)
  · replace hf := hf.1 h5
    refine lv_iconst (v := (-1)) C.1 C.2.1 dX0_trees_17 rfl ?_
    exact hret _ _ _ hf dX0_trees_18
  · replace hf := hf.2 h5
    refine lv_aload_n C.1 C.2.1 dX0_trees_8 rfl (lv_at hl 0 rfl) ?_
    refine lv_iload_n C.1 C.2.1 dX0_trees_9 rfl (lv_at hl 2 rfl) ?_
    refine lv_iload_n C.1 C.2.1 dX0_trees_10 rfl (lv_at hl 3 rfl) ?_
    refine kz_isSpan C hw hl.1 (Nat.le_of_ble_eq_true rfl) ⟨Nat.le_of_ble_eq_true rfl, Nat.le_of_ble_eq_true rfl⟩ dX0_trees_11 ?_
    refine lv_if_ne (tgt := 19) C.1 C.2.1 dX0_trees_14 (by decide) (fun h14 => ?_) (fun h14 => ?_)
    · replace hf := hf.2 h14
      refine lv_aload_n C.1 C.2.1 dX0_trees_19 rfl (lv_at hl 0 rfl) ?_
      exact False.elim hf
    · replace hf := hf.1 h14
      refine lv_iconst (v := (-1)) C.1 C.2.1 dX0_trees_17 rfl ?_
      exact hret _ _ _ hf dX0_trees_18
def z_piece (σ : St) (x1 : Int32) (x2 : Int32) (x3 : Int32) (Q : Int32 → Prop) : Prop :=
  (((fz_isRule σ x1) = 0 → Q (-1)) ∧ (¬ (fz_isRule σ x1) = 0 → (((fz_isSpan σ x2 x3) = 0 → Q (-1)) ∧ (¬ (fz_isSpan σ x2 x3) = 0 → False))))
abbrev rm_z_piece : Room := { frames := 2, cells := 0, slots := 0, locals := 43 }
set_option maxHeartbeats 4000000 in
theorem met_z_piece (l : Launch) (D : va_G) (ct : Ct) (ad : Nat → Nat) (hJ : gJ shZ ad ct) (σ : St) (x1 : Int32) (x2 : Int32) (x3 : Int32) (Q : Int32 → Prop) (hf : z_piece σ x1 x2 x3 Q) : Met l yX0_piece (ws_ yX0_piece cX0_piece 4 (some .int)) rm_z_piece (va_Pc [.ref (ad 0), .int x1, .int x2, .int x3] (gP D ct shZ ad σ)) (gR rvI Q) 0 0 (fun _ => False) := by
  refine g_metRI hJ (by decide) (Nat.le_of_ble_eq_true rfl) ?_
  intro p e s m args below meth c QQ ls H C hw hl hret
  replace hl : lv_has ls 4 [(0, .ref (ad 0)), (1, .int x1), (2, .int x2), (3, .int x3)] := hl
  unfold z_piece at hf
  refine lv_aload_n C.1 C.2.1 dX0_piece_0 rfl (lv_at hl 0 rfl) ?_
  refine lv_iload_n C.1 C.2.1 dX0_piece_1 rfl (lv_at hl 1 rfl) ?_
  refine kz_isRule C hw hl.1 (Nat.le_of_ble_eq_true rfl) ⟨Nat.le_of_ble_eq_true rfl, Nat.le_of_ble_eq_true rfl⟩ dX0_piece_2 ?_
  refine lv_if_eq (tgt := 17) C.1 C.2.1 dX0_piece_5 (by decide) (fun h5 => ?_) (fun h5 => ?_)
  · replace hf := hf.1 h5
    refine lv_iconst (v := (-1)) C.1 C.2.1 dX0_piece_17 rfl ?_
    exact hret _ _ _ hf dX0_piece_18
  · replace hf := hf.2 h5
    refine lv_aload_n C.1 C.2.1 dX0_piece_8 rfl (lv_at hl 0 rfl) ?_
    refine lv_iload_n C.1 C.2.1 dX0_piece_9 rfl (lv_at hl 2 rfl) ?_
    refine lv_iload_n C.1 C.2.1 dX0_piece_10 rfl (lv_at hl 3 rfl) ?_
    refine kz_isSpan C hw hl.1 (Nat.le_of_ble_eq_true rfl) ⟨Nat.le_of_ble_eq_true rfl, Nat.le_of_ble_eq_true rfl⟩ dX0_piece_11 ?_
    refine lv_if_ne (tgt := 19) C.1 C.2.1 dX0_piece_14 (by decide) (fun h14 => ?_) (fun h14 => ?_)
    · replace hf := hf.2 h14
      refine lv_aload_n C.1 C.2.1 dX0_piece_19 rfl (lv_at hl 0 rfl) ?_
      exact False.elim hf
    · replace hf := hf.1 h14
      refine lv_iconst (v := (-1)) C.1 C.2.1 dX0_piece_17 rfl ?_
      exact hret _ _ _ hf dX0_piece_18
def z_ways (σ : St) (x1 : Int32) (x2 : Int32) (x3 : Int32) (Q : Int32 → Prop) : Prop :=
  (((fz_isRule σ x1) = 0 → Q (-1)) ∧ (¬ (fz_isRule σ x1) = 0 → (((fz_isSpan σ x2 x3) = 0 → Q (-1)) ∧ (¬ (fz_isSpan σ x2 x3) = 0 → False))))
abbrev rm_z_ways : Room := { frames := 2, cells := 0, slots := 0, locals := 43 }
set_option maxHeartbeats 4000000 in
theorem met_z_ways (l : Launch) (D : va_G) (ct : Ct) (ad : Nat → Nat) (hJ : gJ shZ ad ct) (σ : St) (x1 : Int32) (x2 : Int32) (x3 : Int32) (Q : Int32 → Prop) (hf : z_ways σ x1 x2 x3 Q) : Met l yX0_ways (ws_ yX0_ways cX0_ways 4 (some .int)) rm_z_ways (va_Pc [.ref (ad 0), .int x1, .int x2, .int x3] (gP D ct shZ ad σ)) (gR rvI Q) 0 0 (fun _ => False) := by
  refine g_metRI hJ (by decide) (Nat.le_of_ble_eq_true rfl) ?_
  intro p e s m args below meth c QQ ls H C hw hl hret
  replace hl : lv_has ls 4 [(0, .ref (ad 0)), (1, .int x1), (2, .int x2), (3, .int x3)] := hl
  unfold z_ways at hf
  refine lv_aload_n C.1 C.2.1 dX0_ways_0 rfl (lv_at hl 0 rfl) ?_
  refine lv_iload_n C.1 C.2.1 dX0_ways_1 rfl (lv_at hl 1 rfl) ?_
  refine kz_isRule C hw hl.1 (Nat.le_of_ble_eq_true rfl) ⟨Nat.le_of_ble_eq_true rfl, Nat.le_of_ble_eq_true rfl⟩ dX0_ways_2 ?_
  refine lv_if_eq (tgt := 17) C.1 C.2.1 dX0_ways_5 (by decide) (fun h5 => ?_) (fun h5 => ?_)
  · replace hf := hf.1 h5
    refine lv_iconst (v := (-1)) C.1 C.2.1 dX0_ways_17 rfl ?_
    exact hret _ _ _ hf dX0_ways_18
  · replace hf := hf.2 h5
    refine lv_aload_n C.1 C.2.1 dX0_ways_8 rfl (lv_at hl 0 rfl) ?_
    refine lv_iload_n C.1 C.2.1 dX0_ways_9 rfl (lv_at hl 2 rfl) ?_
    refine lv_iload_n C.1 C.2.1 dX0_ways_10 rfl (lv_at hl 3 rfl) ?_
    refine kz_isSpan C hw hl.1 (Nat.le_of_ble_eq_true rfl) ⟨Nat.le_of_ble_eq_true rfl, Nat.le_of_ble_eq_true rfl⟩ dX0_ways_11 ?_
    refine lv_if_ne (tgt := 19) C.1 C.2.1 dX0_ways_14 (by decide) (fun h14 => ?_) (fun h14 => ?_)
    · replace hf := hf.2 h14
      refine lv_aload_n C.1 C.2.1 dX0_ways_19 rfl (lv_at hl 0 rfl) ?_
      exact False.elim hf
    · replace hf := hf.1 h14
      refine lv_iconst (v := (-1)) C.1 C.2.1 dX0_ways_17 rfl ?_
      exact hret _ _ _ hf dX0_ways_18
